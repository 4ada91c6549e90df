section
/-! rows on bits, shifts and unsigned numbers, to paste: each family out of a closed proof of our own, whole with what it rests on; each by itself clean at Lean in its own claim (generation 39, form 5). Take a family whole -/
/-! ===== Int32 by its bits: bt x i ===== -/
def bt (x : Int32) (i : Nat) : Bool := x.toBitVec.getLsbD i
theorem b_ext {x y : Int32} (h : ∀ i, i < 32 → bt x i = bt y i) : x = y := Int32.toBitVec_inj.mp (BitVec.eq_of_getLsbD_eq (fun i hi => h i hi))
theorem b_or (x y : Int32) (i : Nat) : bt (x ||| y) i = (bt x i || bt y i) := by unfold bt; rw [Int32.toBitVec_or, BitVec.getLsbD_or]
theorem b_and (x y : Int32) (i : Nat) : bt (x &&& y) i = (bt x i && bt y i) := by unfold bt; rw [Int32.toBitVec_and, BitVec.getLsbD_and]
theorem b_xor (x y : Int32) (i : Nat) : bt (x ^^^ y) i = (bt x i ^^ bt y i) := by unfold bt; rw [Int32.toBitVec_xor, BitVec.getLsbD_xor]
theorem b_big {x : Int32} {i : Nat} (h : 32 ≤ i) : bt x i = false := BitVec.getLsbD_of_ge _ _ h
theorem b_255 (i : Nat) : bt 255 i = decide (i < 8) := by
  rcases Nat.lt_or_ge i 32 with h | h
  · exact (by decide +kernel : ∀ i, i < 32 → bt 255 i = decide (i < 8)) i h
  · rw [b_big h, decide_eq_false (by omega)]
theorem b_65535 (i : Nat) : bt 65535 i = decide (i < 16) := by
  rcases Nat.lt_or_ge i 32 with h | h
  · exact (by decide +kernel : ∀ i, i < 32 → bt 65535 i = decide (i < 16)) i h
  · rw [b_big h, decide_eq_false (by omega)]
theorem b_m1 : ∀ i, i < 32 → bt (-1) i = true := by decide +kernel
theorem b_0 (i : Nat) : bt 0 i = false := BitVec.getLsbD_zero
theorem s_l : ∀ n, n < 32 → ((nI n &&& 31).toBitVec.smod 32).toNat = n := by decide +kernel
theorem s_u : ∀ n, n < 32 → (((nI n).toUInt32 &&& Int32.toUInt32 31).toBitVec % 32).toNat = n := by decide +kernel
theorem b_shl (n : Nat) (hn : n < 32) (x : Int32) {i : Nat} (hi : i < 32) : bt (x <<< (nI n &&& 31)) i = (decide (n ≤ i) && bt x (i - n)) := by
  unfold bt
  rw [Int32.toBitVec_shiftLeft]
  show (x.toBitVec <<< ((nI n &&& 31).toBitVec.smod 32).toNat).getLsbD i = _
  rw [s_l n hn, BitVec.getLsbD_shiftLeft]
  rcases Nat.lt_or_ge i n with h | h
  · simp [h, Nat.not_le.mpr h]
  · simp [hi, h, Nat.not_lt.mpr h]
theorem b_ushr (n : Nat) (hn : n < 32) (x : Int32) (i : Nat) : bt ((x.toUInt32 >>> ((nI n).toUInt32 &&& Int32.toUInt32 31)).toInt32) i = bt x (n + i) := by
  show (x.toUInt32 >>> ((nI n).toUInt32 &&& Int32.toUInt32 31)).toBitVec.getLsbD i = x.toUInt32.toBitVec.getLsbD (n + i)
  rw [UInt32.toBitVec_shiftRight]
  show (x.toUInt32.toBitVec >>> (((nI n).toUInt32 &&& Int32.toUInt32 31).toBitVec % 32).toNat).getLsbD i = _
  rw [s_u n hn, BitVec.getLsbD_ushiftRight]
theorem b_sshr (n : Nat) (hn : n < 32) (x : Int32) {i : Nat} (hi : i < 32) : bt (x >>> (nI n &&& 31)) i = if n + i < 32 then bt x (n + i) else bt x 31 := by
  unfold bt
  rw [Int32.toBitVec_shiftRight]
  show (x.toBitVec.sshiftRight ((nI n &&& 31).toBitVec.smod 32).toNat).getLsbD i = _
  rw [s_l n hn, BitVec.getLsbD_sshiftRight, BitVec.msb_eq_getLsbD_last]
  simp [hi]
theorem b_shl8 (x : Int32) {i : Nat} (hi : i < 32) : bt (x <<< ((8 : Int32) &&& 31)) i = (decide (8 ≤ i) && bt x (i - 8)) := b_shl 8 (by omega) x hi
theorem b_shl16 (x : Int32) {i : Nat} (hi : i < 32) : bt (x <<< ((16 : Int32) &&& 31)) i = (decide (16 ≤ i) && bt x (i - 16)) := b_shl 16 (by omega) x hi
theorem b_shl24 (x : Int32) {i : Nat} (hi : i < 32) : bt (x <<< ((24 : Int32) &&& 31)) i = (decide (24 ≤ i) && bt x (i - 24)) := b_shl 24 (by omega) x hi
theorem b_sshr8 (x : Int32) {i : Nat} (hi : i < 32) : bt (x >>> ((8 : Int32) &&& 31)) i = if 8 + i < 32 then bt x (8 + i) else bt x 31 := b_sshr 8 (by omega) x hi
/-! ===== nI under and, xor, >>>, one bit, 65535 ===== -/
theorem nx_and (a b : Nat) : nI a &&& nI b = nI (a &&& b) := by
  apply Int32.toBitVec_inj.1
  show BitVec.ofNat 32 a &&& BitVec.ofNat 32 b = BitVec.ofNat 32 (a &&& b)
  apply BitVec.eq_of_getLsbD_eq
  intro i hi
  simp [hi]
theorem nx_xor (a b : Nat) : nI a ^^^ nI b = nI (a ^^^ b) := by
  apply Int32.toBitVec_inj.1
  show BitVec.ofNat 32 a ^^^ BitVec.ofNat 32 b = BitVec.ofNat 32 (a ^^^ b)
  apply BitVec.eq_of_getLsbD_eq
  intro i hi
  simp [hi]
theorem nx_cnt : ∀ j : Fin 32, (UInt32.ofNat j.val &&& Int32.toUInt32 31).toNat % 32 = j.val := by decide +kernel
theorem nx_ush {k j : Nat} (hk : k < 65536) (hj : j < 32) : ((nI k).toUInt32 >>> ((nI j).toUInt32 &&& Int32.toUInt32 31)).toInt32 = nI (k >>> j) := by
  have hs : k >>> j ≤ k := by
    rw [Nat.shiftRight_eq_div_pow]
    exact Nat.div_le_self _ _
  have e2 : UInt32.ofNat k >>> (UInt32.ofNat j &&& Int32.toUInt32 31) = UInt32.ofNat (k >>> j) := by
    apply UInt32.toNat_inj.1
    have h1 : (UInt32.ofNat k).toNat = k := Nat.mod_eq_of_lt (by omega)
    have h2 : (UInt32.ofNat (k >>> j)).toNat = k >>> j := Nat.mod_eq_of_lt (by omega)
    rw [UInt32.toNat_shiftRight, nx_cnt ⟨j, hj⟩, h1, h2]
  show (UInt32.ofNat k >>> (UInt32.ofNat j &&& Int32.toUInt32 31)).toInt32 = _
  rw [e2]
  rfl
theorem nx_bit {k j : Nat} (hk : k < 65536) (hj : j < 16) : (((nI k).toUInt32 >>> ((nI j).toUInt32 &&& Int32.toUInt32 31)).toInt32 &&& 1) = 0 ↔ k.testBit j = false := by
  rw [nx_ush hk (by omega)]
  show nI (k >>> j) &&& nI 1 = 0 ↔ _
  rw [nx_and, Nat.and_one_is_mod, ← nI_0, nI_eq (by omega) (by omega), Nat.testBit_eq_decide_div_mod_eq, Nat.shiftRight_eq_div_pow, decide_eq_false_iff_not]
  generalize k / 2 ^ j = z
  omega
theorem nx_mod (k : Nat) : nI k &&& 65535 = nI (k % 65536) := by
  show nI k &&& nI 65535 = _
  rw [nx_and, show (65535 : Nat) = 2 ^ 16 - 1 from rfl, Nat.and_two_pow_sub_one_eq_mod]
theorem nx_m16 {k : Nat} (h : k < 65536) : nI k &&& 65535 = nI k := by rw [nx_mod, Nat.mod_eq_of_lt h]
theorem nx_mask (x : Int32) : ∃ k, k < 65536 ∧ x &&& 65535 = nI k := by
  have e : x = nI x.toBitVec.toNat := by
    apply Int32.toBitVec_inj.1
    show x.toBitVec = BitVec.ofNat 32 x.toBitVec.toNat
    simp
  refine ⟨x.toBitVec.toNat % 65536, Nat.mod_lt _ (by omega), ?_⟩
  rw [← nx_mod, ← e]
/-! ===== Int32 as a set of bits: test, set ===== -/
def nf_M (m : Int32) : Nat := 4294967296 - m.toBitVec.toNat
theorem nf_sh : ∀ l, l < 32 → ((1 : Int32) <<< (nI l &&& 31)).toBitVec = BitVec.twoPow 32 l := by decide +kernel
theorem nf_sl : ∀ l, l < 32 → (((nI l).toUInt32 &&& Int32.toUInt32 31).toBitVec % 32).toNat = l := by decide +kernel
theorem nf_tp : ∀ l, l < 32 → BitVec.twoPow 32 l ≠ 0#32 := by decide +kernel
theorem nf_bit (m : Int32) (l : Nat) (hl : l < 32) : ((m.toUInt32 >>> ((nI l).toUInt32 &&& Int32.toUInt32 31)).toInt32 &&& 1) = 0 ↔ (m &&& ((1 : Int32) <<< (nI l &&& 31))) = 0 := by
  have e : ((m.toUInt32 >>> ((nI l).toUInt32 &&& Int32.toUInt32 31)).toInt32).toBitVec = m.toBitVec >>> l := by
    show m.toBitVec >>> (((nI l).toUInt32 &&& Int32.toUInt32 31).toBitVec % 32) = m.toBitVec >>> l
    rw [BitVec.ushiftRight_eq', nf_sl l hl]
  rw [← Int32.toBitVec_inj, ← Int32.toBitVec_inj, Int32.toBitVec_and, Int32.toBitVec_and, nf_sh l hl, e, BitVec.and_twoPow]
  show (m.toBitVec >>> l &&& 1#32) = 0#32 ↔ _ = 0#32
  rw [BitVec.and_one_eq_setWidth_ofBool_getLsbD, BitVec.getLsbD_ushiftRight, Nat.add_zero]
  cases hb : m.toBitVec.getLsbD l
  · exact ⟨fun _ => by simp, fun _ => by decide⟩
  · exact ⟨fun z => absurd z (by decide), fun z => absurd ((if_pos rfl).symm.trans z) (nf_tp l hl)⟩
theorem nf_gr (m k : Int32) (h : m &&& k = 0) (hk : k ≠ 0) : nf_M (m ||| k) < nf_M m := by
  have hm := m.toBitVec.isLt
  have hm' := (m ||| k).toBitVec.isLt
  have h1 : m.toBitVec.toNat ≤ (m ||| k).toBitVec.toNat := by
    rw [Int32.toBitVec_or, BitVec.toNat_or]
    exact Nat.left_le_or
  have h2 : m.toBitVec.toNat ≠ (m ||| k).toBitVec.toNat := by
    intro e
    have e2 : m = m ||| k := Int32.toBitVec_inj.mp (BitVec.eq_of_toNat_eq e)
    apply hk
    apply Int32.toBitVec_inj.mp
    show k.toBitVec = 0#32
    apply BitVec.eq_of_getLsbD_eq
    intro i hi
    have a : m.toBitVec.getLsbD i = (m.toBitVec.getLsbD i || k.toBitVec.getLsbD i) := by rw [← BitVec.getLsbD_or, ← Int32.toBitVec_or, ← e2]
    have b : (m.toBitVec.getLsbD i && k.toBitVec.getLsbD i) = false := by
      rw [← BitVec.getLsbD_and, ← Int32.toBitVec_and, h]
      exact BitVec.getLsbD_zero
    rw [BitVec.getLsbD_zero]
    revert a b
    cases m.toBitVec.getLsbD i <;> cases k.toBitVec.getLsbD i <;> simp
  unfold nf_M
  omega
/-! pure rows to paste: stores, nI and lN arithmetic, masks, shifts, narrowing, branches by naturals (pk_le, pk_lt, pk_eq), loops (lp1 .. lp16: the measure of the state; rp1 ..: recursion), negatives. Take what you need -/
theorem pk_us {f : Nat → Int32} {k : Nat} {x : Int32} : upd f k x k = x := if_pos rfl
theorem pk_un {f : Nat → Int32} {k j : Nat} {x : Int32} (h : j ≠ k) : upd f k x j = f j := if_neg h
theorem pk_sub {a b : Nat} (h : b ≤ a) : nI a - nI b = nI (a - b) := by
  obtain ⟨c, rfl⟩ : ∃ c, a = c + b := ⟨a - b, by omega⟩
  rw [← nI_add, Int32.add_sub_cancel, Nat.add_sub_cancel]
theorem pk_m1 (n : Nat) : nI (n + 1) + (-1) = nI n := by
  rw [← nI_1, Int32.add_assoc, show (1 : Int32) + (-1) = 0 from rfl, Int32.add_zero]
theorem pk_mul (a b : Nat) : nI a * nI b = nI (a * b) := (Int32.ofNat_mul a b).symm
theorem pk_div {a d : Nat} (ha : a < 2 ^ 31) (h0 : 0 < d) (hd : d < 2 ^ 31) : nI a / nI d = nI (a / d) := by
  apply Int32.toInt_inj.mp
  rw [lg_idiv_nonneg (by rw [nI_toInt ha]; omega) (by rw [nI_toInt hd]; omega), nI_toInt ha, nI_toInt hd, nI_toInt (Nat.lt_of_le_of_lt (Nat.div_le_self a d) ha)]
  first | rfl | exact (Int.natCast_ediv _ _).symm
theorem pk_rem {a d : Nat} (ha : a < 2 ^ 31) (h0 : 0 < d) (hd : d < 2 ^ 31) : nI a - nI a / nI d * nI d = nI (a % d) := by
  rw [pk_div ha h0 hd, pk_mul, pk_sub (Nat.div_mul_le_self a d)]
  exact congrArg nI (by have := Nat.div_add_mod' a d; omega)
theorem pk_sub_toInt {a b : Nat} (ha : a < 2 ^ 30) (hb : b < 2 ^ 30) : (nI a - nI b).toInt = (a : Int) - b := by
  rw [Int32.toInt_sub, nI_toInt (by omega), nI_toInt (by omega)]
  exact Int.bmod_eq_of_le (by omega) (by omega)
theorem pk_sneg {a b : Nat} (hb : b < 2 ^ 30) (h : a < b) : nI a - nI b < 0 := by
  rw [Int32.lt_iff_toInt_lt, pk_sub_toInt (by omega) hb, show (0 : Int32).toInt = 0 from by decide]
  omega
theorem pk_ix (x : Int32) {n : Nat} (hn : n < 2 ^ 31) : x < 0 ∨ nI n ≤ x ∨ ∃ j : Nat, j < n ∧ x = nI j := by
  by_cases h : x < 0
  · exact Or.inl h
  · obtain ⟨j, hj, rfl⟩ := nI_of h
    by_cases h2 : j < n
    · exact Or.inr (Or.inr ⟨j, h2, rfl⟩)
    · exact Or.inr (Or.inl (nI_le (by omega) hj))
theorem pk_le {x y : Int32} {A B : Prop} (a b : Nat) (f : a ≤ b → A) (g : b < a → B) (hx : x = nI a := by rfl) (hy : y = nI b := by rfl) (ha : a < 2 ^ 31 := by omega) (hb : b < 2 ^ 31 := by omega) : (x ≤ y → A) ∧ (¬ x ≤ y → B) := by
  subst hx hy
  rw [nI_leI ha hb]
  exact ⟨f, fun z => g (by omega)⟩
theorem pk_lt {x y : Int32} {A B : Prop} (a b : Nat) (f : a < b → A) (g : b ≤ a → B) (hx : x = nI a := by rfl) (hy : y = nI b := by rfl) (ha : a < 2 ^ 31 := by omega) (hb : b < 2 ^ 31 := by omega) : (x < y → A) ∧ (¬ x < y → B) := by
  subst hx hy
  rw [nI_ltI ha hb]
  exact ⟨f, fun z => g (by omega)⟩
theorem pk_eq {x y : Int32} {A B : Prop} (a b : Nat) (f : a = b → A) (g : a ≠ b → B) (hx : x = nI a := by rfl) (hy : y = nI b := by rfl) (ha : a < 2 ^ 31 := by omega) (hb : b < 2 ^ 31 := by omega) : (x = y → A) ∧ (¬ x = y → B) := by
  subst hx hy
  rw [nI_eq ha hb]
  exact ⟨f, g⟩
theorem pk_in {x : Int32} (n N : Nat) (h : n < N) (hx : x = nI n := by rfl) (hN : N < 2 ^ 31 := by omega) : vp_in x N := by
  subst hx
  exact vp_in_nI h hN
theorem pk_cl {x : Int32} (n : Nat) (hx : x = nI n := by rfl) (h : n < 2 ^ 31 := by omega) : x.toNatClampNeg = n := by
  subst hx
  exact nI_clamp h
theorem pk_tn {n : Nat} (h : n < 2 ^ 32) : (nI n).toBitVec.toNat = n := Nat.mod_eq_of_lt h
theorem pk_and (x : Int32) {m : Int32} (k : Nat) (hm : m.toBitVec.toNat = 2 ^ k - 1) : x &&& m = nI (x.toBitVec.toNat % 2 ^ k) := by
  apply Int32.toBitVec_inj.mp
  apply BitVec.eq_of_toNat_eq
  rw [Int32.toBitVec_and, BitVec.toNat_and, hm, Nat.and_two_pow_sub_one_eq_mod]
  show _ = (BitVec.ofNat 32 _).toNat
  rw [BitVec.toNat_ofNat]
  exact (Nat.mod_eq_of_lt (Nat.lt_of_le_of_lt (Nat.mod_le _ _) x.toBitVec.isLt)).symm
theorem pk_andN {n : Nat} (h : n < 2 ^ 32) {m : Int32} (k : Nat) (hm : m.toBitVec.toNat = 2 ^ k - 1) : nI n &&& m = nI (n % 2 ^ k) := by
  rw [pk_and _ k hm, pk_tn h]
theorem pk_andE (x : Int32) {m : Int32} (k : Nat) (hm : m.toBitVec.toNat = 2 ^ k - 1) : ∃ j : Nat, j < 2 ^ k ∧ x &&& m = nI j := ⟨_, Nat.mod_lt _ (Nat.two_pow_pos k), pk_and x k hm⟩
theorem pk_andIn (x : Int32) {m : Int32} (k : Nat) (hm : m.toBitVec.toNat = 2 ^ k - 1) (hk : k ≤ 30) : vp_in (x &&& m) (2 ^ k) := by
  obtain ⟨j, hj, e⟩ := pk_andE x k hm
  rw [e]
  exact vp_in_nI hj (Nat.lt_of_le_of_lt (Nat.pow_le_pow_right (by decide) hk) (by decide))
theorem pk_shl (a s : Int32) (k : Nat) (hs : (s.toBitVec.smod 32).toNat = k) : (a <<< s).toBitVec.toNat = a.toBitVec.toNat * 2 ^ k % 2 ^ 32 := by
  show (a.toBitVec <<< (s.toBitVec.smod 32).toNat).toNat = _
  rw [hs, BitVec.toNat_shiftLeft, Nat.shiftLeft_eq]
theorem pk_shlN {n : Nat} (s : Int32) (k : Nat) (hs : (s.toBitVec.smod 32).toNat = k) (h : n * 2 ^ k < 2 ^ 32) : nI n <<< s = nI (n * 2 ^ k) := by
  apply Int32.toBitVec_inj.mp
  apply BitVec.eq_of_toNat_eq
  have hn : n < 2 ^ 32 := Nat.lt_of_le_of_lt (Nat.le_mul_of_pos_right n (Nat.two_pow_pos k)) h
  rw [pk_shl _ _ k hs, pk_tn hn, pk_tn h, Nat.mod_eq_of_lt h]
theorem pk_shr (a s : Int32) (k : Nat) (hs : (s.toBitVec.smod 32).toNat = k) : (a >>> s).toInt = a.toInt >>> k := by
  show (a.toBitVec.sshiftRight (s.toBitVec.smod 32).toNat).toInt = _
  rw [hs, BitVec.toInt_sshiftRight]
  rfl
theorem pk_shrN {n : Nat} (h : n < 2 ^ 31) (s : Int32) (k : Nat) (hs : (s.toBitVec.smod 32).toNat = k) : nI n >>> s = nI (n / 2 ^ k) := by
  apply Int32.toInt_inj.mp
  have h2 : n / 2 ^ k ≤ n := Nat.div_le_self _ _
  rw [pk_shr _ _ k hs, nI_toInt h, nI_toInt (by omega), Int.shiftRight_eq_div_pow]
  rfl
theorem pk_ushr (x s : Int32) (k : Nat) (hs : ((s.toUInt32 &&& Int32.toUInt32 31).toBitVec % 32).toNat = k) : (x.toUInt32 >>> (s.toUInt32 &&& Int32.toUInt32 31)).toInt32.toBitVec.toNat = x.toBitVec.toNat / 2 ^ k := by
  have e : (x.toUInt32 >>> (s.toUInt32 &&& Int32.toUInt32 31)).toInt32.toBitVec = x.toBitVec >>> k := by
    rw [← hs]
    exact UInt32.toBitVec_shiftRight _ _
  rw [e, BitVec.toNat_ushiftRight, Nat.shiftRight_eq_div_pow]
theorem pk_ushrN {n : Nat} (hn : n < 2 ^ 32) (s : Int32) (k : Nat) (hs : ((s.toUInt32 &&& Int32.toUInt32 31).toBitVec % 32).toNat = k) : ((nI n).toUInt32 >>> (s.toUInt32 &&& Int32.toUInt32 31)).toInt32 = nI (n / 2 ^ k) := by
  apply Int32.toBitVec_inj.mp
  apply BitVec.eq_of_toNat_eq
  rw [pk_ushr _ s k hs, pk_tn hn, pk_tn (Nat.lt_of_le_of_lt (Nat.div_le_self _ _) hn)]
theorem pk_loop {σ : Type} (W : Nat → Nat → σ → Prop) (I : Nat → σ → Prop) (e i0 : Nat) (s : σ) (hi : i0 ≤ e) (h0 : I i0 s) (hx : ∀ n s, I e s → W (n + 1) e s)
    (hs : ∀ n i s, i < e → I i s → (∀ s', I (i + 1) s' → W n (i + 1) s') → W (n + 1) i s) : ∃ n, W n i0 s :=
  ⟨e + 1, loop_i W I e hx hs (e + 1) i0 s hi (by omega) h0⟩
theorem pk_loopD {σ : Type} (W : Nat → Nat → σ → Prop) (I : Nat → σ → Prop) (hx : ∀ n s, I 0 s → W (n + 1) 0 s)
    (hs : ∀ n i s, I (i + 1) s → (∀ s', I i s' → W n i s') → W (n + 1) (i + 1) s) : ∀ (e : Nat) (s : σ), I e s → W (e + 1) e s := by
  intro e
  induction e with
  | zero => exact fun s h => hx 0 s h
  | succ e ih => exact fun s h => hs (e + 1) e s h (fun s' h' => ih s' h')
theorem pk_least (P : Nat → Prop) (h : ∃ k, P k) : ∃ k, P k ∧ ∀ j, j < k → ¬ P j := by
  obtain ⟨k, hk⟩ := h
  induction k using Nat.strongRecOn with
  | ind k ih =>
    by_cases e : ∃ j, j < k ∧ P j
    · obtain ⟨j, hj, pj⟩ := e
      exact ih j hj pj
    · exact ⟨k, hk, fun j hj pj => e ⟨j, hj, pj⟩⟩
end
section
/-! ===== sets as naturals ===== -/
def qa_df (m l : Nat) : Nat := m ^^^ (m &&& l)
theorem qa_dft (m l i : Nat) : (qa_df m l).testBit i = (m.testBit i && !l.testBit i) := by
  unfold qa_df
  rw [Nat.testBit_xor, Nat.testBit_and]
  cases m.testBit i <;> cases l.testBit i <;> rfl
theorem qa_sb {a b : Nat} : a &&& b = a ↔ ∀ i, a.testBit i = true → b.testBit i = true := by
  constructor
  · intro h i hi
    have h1 : (a &&& b).testBit i = true := by rw [h]; exact hi
    rw [Nat.testBit_and, hi] at h1
    exact h1
  · intro h
    apply Nat.eq_of_testBit_eq
    intro i
    rw [Nat.testBit_and]
    have h1 := h i
    revert h1
    cases a.testBit i <;> cases b.testBit i <;> simp
theorem qa_sb_refl (a : Nat) : a &&& a = a := Nat.and_self a
theorem qa_sb_tr {a b c : Nat} (h : a &&& b = a) (h' : b &&& c = b) : a &&& c = a := qa_sb.mpr fun i hi => qa_sb.mp h' i (qa_sb.mp h i hi)
theorem qa_sb_l (a b : Nat) : a &&& (a ||| b) = a := qa_sb.mpr fun i hi => by rw [Nat.testBit_or, hi]; rfl
theorem qa_sb_r (a b : Nat) : b &&& (a ||| b) = b := qa_sb.mpr fun i hi => by rw [Nat.testBit_or, hi]; exact Bool.or_true _
theorem qa_sb_or {a b x : Nat} : (a ||| b) &&& x = a ||| b ↔ a &&& x = a ∧ b &&& x = b := by
  constructor
  · intro h
    exact ⟨qa_sb_tr (qa_sb_l a b) h, qa_sb_tr (qa_sb_r a b) h⟩
  · intro ⟨h1, h2⟩
    refine qa_sb.mpr fun i hi => ?_
    rw [Nat.testBit_or, Bool.or_eq_true] at hi
    rcases hi with z | z
    · exact qa_sb.mp h1 i z
    · exact qa_sb.mp h2 i z
theorem qa_sb_as {a b : Nat} (h : a &&& b = a) (h' : b &&& a = b) : a = b := by rw [← h, Nat.and_comm, h']
theorem qa_sb_le {a b : Nat} (h : a &&& b = a) : a ≤ b := by rw [← h]; exact Nat.and_le_right
theorem qa_sb_0 (a : Nat) : 0 &&& a = 0 := Nat.zero_and a
theorem qa_df_le (m l : Nat) : qa_df m l ≤ m := by
  apply qa_sb_le
  refine qa_sb.mpr fun i hi => ?_
  rw [qa_dft, Bool.and_eq_true] at hi
  exact hi.1
theorem qa_df_sb (m l : Nat) : qa_df m l &&& m = qa_df m l := by
  refine qa_sb.mpr fun i hi => ?_
  rw [qa_dft, Bool.and_eq_true] at hi
  exact hi.1
theorem qa_df_dj (m l : Nat) : qa_df m l &&& l = 0 := by
  apply Nat.eq_of_testBit_eq
  intro i
  rw [Nat.testBit_and, qa_dft, Nat.zero_testBit]
  cases m.testBit i <;> cases l.testBit i <;> rfl
theorem qa_df_or {m l : Nat} (h : l &&& m = l) : qa_df m l ||| l = m := by
  apply Nat.eq_of_testBit_eq
  intro i
  have h1 := qa_sb.mp h i
  rw [Nat.testBit_or, qa_dft]
  revert h1
  cases m.testBit i <;> cases l.testBit i <;> simp
theorem qa_df_of {c l : Nat} (h : c &&& l = 0) : qa_df (c ||| l) l = c := by
  apply Nat.eq_of_testBit_eq
  intro i
  have h1 : (c &&& l).testBit i = false := by rw [h]; exact Nat.zero_testBit i
  rw [Nat.testBit_and] at h1
  rw [qa_dft, Nat.testBit_or]
  revert h1
  cases c.testBit i <;> cases l.testBit i <;> simp
theorem qa_df_of' {c l : Nat} (h : c &&& l = 0) : qa_df (c ||| l) c = l := by
  rw [Nat.or_comm]
  exact qa_df_of (by rw [Nat.and_comm]; exact h)
theorem qa_df_ch {a m k : Nat} (h : a &&& m = a) (h' : m &&& k = m) : qa_df m a ||| qa_df k m = qa_df k a := by
  apply Nat.eq_of_testBit_eq
  intro i
  have h1 := qa_sb.mp h i
  have h2 := qa_sb.mp h' i
  rw [Nat.testBit_or, qa_dft, qa_dft, qa_dft]
  revert h1 h2
  cases a.testBit i <;> cases m.testBit i <;> cases k.testBit i <;> simp
theorem qa_df_orl (a b : Nat) : qa_df (a ||| b) a = qa_df b a := by
  apply Nat.eq_of_testBit_eq
  intro i
  rw [qa_dft, qa_dft, Nat.testBit_or]
  cases a.testBit i <;> cases b.testBit i <;> rfl
theorem qa_2p {v c : Nat} : 2 ^ v &&& c = 2 ^ v ↔ c.testBit v = true := by
  rw [qa_sb]
  constructor
  · intro h
    exact h v (by rw [Nat.testBit_two_pow]; exact decide_eq_true rfl)
  · intro h i hi
    rw [Nat.testBit_two_pow, decide_eq_true_eq] at hi
    rw [← hi]; exact h
theorem qa_mt {a b : Nat} (h : ¬ a &&& b = 0) : ∃ v, a.testBit v = true ∧ b.testBit v = true := by
  apply Classical.byContradiction
  intro z
  apply h
  apply Nat.eq_of_testBit_eq
  intro i
  rw [Nat.testBit_and, Nat.zero_testBit]
  cases ha : a.testBit i
  · rfl
  · cases hb : b.testBit i
    · rfl
    · exact absurd ⟨i, ha, hb⟩ z
/-- a number of monomials -/
def qa_sz (s : Nat) : Prop := 0 < s ∧ s ≤ 32 ∧ ∀ a b, a < s → b < s → a ||| b < s
theorem qa_sz_n {n : Nat} (h : n ≤ 5) : qa_sz (2 ^ n) :=
  ⟨Nat.two_pow_pos n, Nat.pow_le_pow_right (by decide) h, fun _ _ ha hb => Nat.or_lt_two_pow ha hb⟩
/-! ===== polynomials by their bits ===== -/
def qa_mo (m : Nat) : Int32 := (1 : Int32) <<< (nI m &&& 31)
theorem qa_bmo : ∀ m, m < 32 → ∀ i, i < 32 → bt (qa_mo m) i = decide (i = m) := by decide +kernel
theorem qa_bm {m : Nat} (hm : m < 32) (i : Nat) : bt (qa_mo m) i = decide (i = m) := by
  rcases Nat.lt_or_ge i 32 with h | h
  · exact qa_bmo m hm i h
  · rw [b_big h, decide_eq_false (by omega)]
theorem qa_b1 : ∀ i, i < 32 → bt 1 i = decide (i = 0) := by decide +kernel
theorem qa_lt {p : Int32} {m : Nat} (h : bt p m = true) : m < 32 := by
  rcases Nat.lt_or_ge m 32 with z | z
  · exact z
  · rw [b_big z] at h; exact nomatch h
theorem qa_t (p : Int32) {m : Nat} (hm : m < 32) : ((p.toUInt32 >>> ((nI m).toUInt32 &&& Int32.toUInt32 31)).toInt32 &&& 1) = (if bt p m then 1 else 0) := by
  apply b_ext
  intro i hi
  rw [b_and, b_ushr m hm, qa_b1 i hi]
  cases h : bt p m
  · show _ = bt 0 i
    rw [b_0]
    by_cases z : i = 0
    · rw [z, Nat.add_zero, h]; rfl
    · rw [decide_eq_false z, Bool.and_false]
  · show _ = bt 1 i
    rw [qa_b1 i hi]
    by_cases z : i = 0
    · rw [z, Nat.add_zero, h]; rfl
    · rw [decide_eq_false z, Bool.and_false]
theorem qa_t0 (p : Int32) {m : Nat} (hm : m < 32) : ((p.toUInt32 >>> ((nI m).toUInt32 &&& Int32.toUInt32 31)).toInt32 &&& 1) = 0 ↔ bt p m = false := by
  rw [qa_t p hm]
  cases bt p m <;> decide
theorem qa_t1 (p : Int32) {m : Nat} (hm : m < 32) : ((p.toUInt32 >>> ((nI m).toUInt32 &&& Int32.toUInt32 31)).toInt32 &&& 1) = 1 ↔ bt p m = true := by
  rw [qa_t p hm]
  cases bt p m <;> decide
theorem qa_br0 {p : Int32} {m : Nat} {A B : Prop} (hm : m < 32) (f : bt p m = false → A) (g : bt p m = true → B) : (((p.toUInt32 >>> ((nI m).toUInt32 &&& Int32.toUInt32 31)).toInt32 &&& 1) = 0 → A) ∧ (¬ ((p.toUInt32 >>> ((nI m).toUInt32 &&& Int32.toUInt32 31)).toInt32 &&& 1) = 0 → B) := by
  rw [qa_t0 p hm]
  exact ⟨f, fun z => g (by revert z; cases bt p m <;> simp)⟩
theorem qa_br1 {p : Int32} {m : Nat} {A B : Prop} (hm : m < 32) (f : bt p m = true → A) (g : bt p m = false → B) : (((p.toUInt32 >>> ((nI m).toUInt32 &&& Int32.toUInt32 31)).toInt32 &&& 1) = 1 → A) ∧ (¬ ((p.toUInt32 >>> ((nI m).toUInt32 &&& Int32.toUInt32 31)).toInt32 &&& 1) = 1 → B) := by
  rw [qa_t1 p hm]
  exact ⟨f, fun z => g (by revert z; cases bt p m <;> simp)⟩
theorem qa_xx (p : Int32) : p ^^^ p = 0 := by
  apply b_ext; intro i _
  rw [b_xor, b_0]; cases bt p i <;> rfl
theorem qa_x0 (p : Int32) : p ^^^ 0 = p := by
  apply b_ext; intro i _
  rw [b_xor, b_0]; cases bt p i <;> rfl
theorem qa_0x (p : Int32) : 0 ^^^ p = p := by
  apply b_ext; intro i _
  rw [b_xor, b_0]; cases bt p i <;> rfl
theorem qa_xc (p q : Int32) : p ^^^ q = q ^^^ p := by
  apply b_ext; intro i _
  rw [b_xor, b_xor]; cases bt p i <;> cases bt q i <;> rfl
theorem qa_xa (p q r : Int32) : (p ^^^ q) ^^^ r = p ^^^ (q ^^^ r) := by
  apply b_ext; intro i _
  rw [b_xor, b_xor, b_xor, b_xor]; cases bt p i <;> cases bt q i <;> cases bt r i <;> rfl
theorem qa_xk (p q : Int32) : (p ^^^ q) ^^^ q = p := by rw [qa_xa, qa_xx, qa_x0]
theorem qa_xk' (p q : Int32) : p ^^^ (p ^^^ q) = q := by rw [← qa_xa, qa_xx, qa_0x]
theorem qa_x_eq {p q : Int32} (h : p ^^^ q = 0) : p = q := by rw [← qa_xk p q, h, qa_0x]
theorem qa_nz {p : Int32} (h : ¬ p = 0) : ∃ m, bt p m = true := by
  apply Classical.byContradiction
  intro z
  apply h
  apply b_ext
  intro i _
  rw [b_0]
  cases e : bt p i
  · rfl
  · exact absurd ⟨i, e⟩ z
theorem qa_nz' {p : Int32} {m : Nat} (h : bt p m = true) : ¬ p = 0 := by
  intro z; rw [z, b_0] at h; exact nomatch h
/-! ===== sums over the monomials of a polynomial ===== -/
def qa_es (F : Nat → Bool) (p : Int32) : Nat → Bool
  | 0 => false
  | k + 1 => (qa_es F p k ^^ (bt p k && F k))
def qa_ls (F : Nat → Int32) (p : Int32) : Nat → Int32
  | 0 => 0
  | k + 1 => if bt p k then qa_ls F p k ^^^ F k else qa_ls F p k
theorem qa_ls_t {F : Nat → Int32} {p : Int32} {k : Nat} (h : bt p k = true) : qa_ls F p (k + 1) = qa_ls F p k ^^^ F k := by
  show (if bt p k then _ else _) = _
  rw [if_pos h]
theorem qa_ls_f {F : Nat → Int32} {p : Int32} {k : Nat} (h : bt p k = false) : qa_ls F p (k + 1) = qa_ls F p k := by
  show (if bt p k then _ else _) = _
  rw [if_neg (by rw [h]; decide)]
theorem qa_ls_bt (F : Nat → Int32) (p : Int32) (x : Nat) : ∀ k, bt (qa_ls F p k) x = qa_es (fun m => bt (F m) x) p k
  | 0 => b_0 x
  | k + 1 => by
    have ih := qa_ls_bt F p x k
    show _ = (qa_es (fun m => bt (F m) x) p k ^^ (bt p k && bt (F k) x))
    cases h : bt p k
    · rw [qa_ls_f h, ih, Bool.false_and, Bool.xor_false]
    · rw [qa_ls_t h, b_xor, ih, Bool.true_and]
theorem qa_es_xor (F : Nat → Bool) (p q : Int32) : ∀ k, qa_es F (p ^^^ q) k = (qa_es F p k ^^ qa_es F q k)
  | 0 => rfl
  | k + 1 => by
    have ih := qa_es_xor F p q k
    show (qa_es F (p ^^^ q) k ^^ (bt (p ^^^ q) k && F k)) = ((qa_es F p k ^^ (bt p k && F k)) ^^ (qa_es F q k ^^ (bt q k && F k)))
    rw [ih, b_xor]
    cases qa_es F p k <;> cases qa_es F q k <;> cases bt p k <;> cases bt q k <;> cases F k <;> rfl
theorem qa_es_no {F : Nat → Bool} {p : Int32} : ∀ {k : Nat}, (∀ m, m < k → bt p m = true → F m = false) → qa_es F p k = false
  | 0, _ => rfl
  | k + 1, h => by
    have ih := qa_es_no (F := F) (p := p) (k := k) (fun m hm => h m (by omega))
    have h1 := h k (by omega)
    show (qa_es F p k ^^ (bt p k && F k)) = false
    rw [ih]
    revert h1
    cases bt p k <;> cases F k <;> simp
theorem qa_es_cg {F G : Nat → Bool} {p : Int32} : ∀ {k : Nat}, (∀ m, m < k → bt p m = true → F m = G m) → qa_es F p k = qa_es G p k
  | 0, _ => rfl
  | k + 1, h => by
    have ih := qa_es_cg (F := F) (G := G) (p := p) (k := k) (fun m hm => h m (by omega))
    have h1 := h k (by omega)
    show (qa_es F p k ^^ (bt p k && F k)) = (qa_es G p k ^^ (bt p k && G k))
    rw [ih]
    revert h1
    cases bt p k <;> simp
theorem qa_es_mo (F : Nat → Bool) {m : Nat} (hm : m < 32) : ∀ k, qa_es F (qa_mo m) k = (decide (m < k) && F m)
  | 0 => rfl
  | k + 1 => by
    have ih := qa_es_mo F hm k
    show (qa_es F (qa_mo m) k ^^ (bt (qa_mo m) k && F k)) = _
    rw [ih, qa_bm hm]
    by_cases h : k = m
    · subst h
      rw [decide_eq_false (Nat.lt_irrefl k), decide_eq_true (rfl : k = k), decide_eq_true (Nat.lt_succ_self k)]
      cases F k <;> rfl
    · rw [decide_eq_false h, Bool.false_and, Bool.xor_false]
      have e : decide (m < k) = decide (m < k + 1) := by
        rw [decide_eq_decide]; omega
      rw [e]
theorem qa_es_up {F : Nat → Bool} {p : Int32} {a : Nat} (hp : ∀ m, bt p m = true → m < a) : ∀ d, qa_es F p (a + d) = qa_es F p a
  | 0 => rfl
  | d + 1 => by
    have ih := qa_es_up (F := F) hp d
    show (qa_es F p (a + d) ^^ (bt p (a + d) && F (a + d))) = _
    cases h : bt p (a + d)
    · rw [ih, Bool.false_and, Bool.xor_false]
    · exact absurd (hp _ h) (by omega)
theorem qa_ls_xor (F : Nat → Int32) (p q : Int32) (k : Nat) : qa_ls F (p ^^^ q) k = qa_ls F p k ^^^ qa_ls F q k := by
  apply b_ext
  intro i _
  rw [b_xor, qa_ls_bt, qa_ls_bt, qa_ls_bt, qa_es_xor]
theorem qa_ls_0 (F : Nat → Int32) : ∀ k, qa_ls F 0 k = 0
  | 0 => rfl
  | k + 1 => by rw [qa_ls_f (b_0 k)]; exact qa_ls_0 F k
theorem qa_ls_mo (F : Nat → Int32) {m : Nat} (hm : m < 32) {k : Nat} (hk : m < k) : qa_ls F (qa_mo m) k = F m := by
  apply b_ext
  intro i _
  rw [qa_ls_bt, qa_es_mo _ hm, decide_eq_true hk, Bool.true_and]
theorem qa_es_id (p : Int32) (x : Nat) : ∀ k, qa_es (fun m => decide (x = m)) p k = (decide (x < k) && bt p x)
  | 0 => rfl
  | k + 1 => by
    have ih := qa_es_id p x k
    show (qa_es (fun m => decide (x = m)) p k ^^ (bt p k && decide (x = k))) = _
    rw [ih]
    by_cases h : x = k
    · subst h
      rw [decide_eq_false (Nat.lt_irrefl x), decide_eq_true (rfl : x = x), decide_eq_true (Nat.lt_succ_self x)]
      cases bt p x <;> rfl
    · rw [decide_eq_false h, Bool.and_false, Bool.xor_false]
      have e : decide (x < k) = decide (x < k + 1) := by
        rw [decide_eq_decide]; omega
      rw [e]
theorem qa_ls_lo (p : Int32) {k : Nat} (hk : k ≤ 32) (x : Nat) : bt (qa_ls qa_mo p k) x = (decide (x < k) && bt p x) := by
  rw [qa_ls_bt, ← qa_es_id]
  exact qa_es_cg fun m hm _ => qa_bm (by omega) x
theorem qa_ls_id (p : Int32) : qa_ls qa_mo p 32 = p := by
  apply b_ext
  intro i hi
  rw [qa_ls_lo p (Nat.le_refl _), decide_eq_true hi, Bool.true_and]
/-- a polynomial is built out of 0 by adding its monomials -/
theorem qa_ind {P : Int32 → Prop} (p : Int32) (h0 : P 0) (hs : ∀ q m, m < 32 → bt p m = true → P q → P (q ^^^ qa_mo m)) : P p := by
  have key : ∀ k, k ≤ 32 → P (qa_ls qa_mo p k) := by
    intro k
    induction k with
    | zero => intro _; exact h0
    | succ k ih =>
      intro hk
      have i1 := ih (by omega)
      cases h : bt p k
      · rw [qa_ls_f h]; exact i1
      · rw [qa_ls_t h]; exact hs _ _ (by omega) h i1
  have h := key 32 (Nat.le_refl _)
  rw [qa_ls_id] at h
  exact h
/-! ===== values, products ===== -/
def qa_dv (a b : Nat) : Bool := decide (a &&& b = a)
theorem qa_dv_t {a b : Nat} : qa_dv a b = true ↔ a &&& b = a := decide_eq_true_iff
theorem qa_dv_f {a b : Nat} : qa_dv a b = false ↔ ¬ a &&& b = a := decide_eq_false_iff_not
theorem qa_dv_or (a b x : Nat) : qa_dv (a ||| b) x = (qa_dv a x && qa_dv b x) := by
  rw [Bool.eq_iff_iff, Bool.and_eq_true, qa_dv_t, qa_dv_t, qa_dv_t]
  exact qa_sb_or
def qa_ev (p : Int32) (x : Nat) : Bool := qa_es (fun m => qa_dv m x) p 32
def qa_mul (p : Int32) (c : Nat) : Int32 := qa_ls (fun m => qa_mo (m ||| c)) p 32
def qa_pr (p q : Int32) : Int32 := qa_ls (fun m => qa_mul q m) p 32
def qa_in (s : Nat) (p : Int32) : Prop := ∀ m, bt p m = true → m < s
theorem qa_ev_xor (p q : Int32) (x : Nat) : qa_ev (p ^^^ q) x = (qa_ev p x ^^ qa_ev q x) := qa_es_xor _ p q 32
theorem qa_ev_0 (x : Nat) : qa_ev 0 x = false := qa_es_no fun m _ h => by rw [b_0] at h; exact nomatch h
theorem qa_ev_mo {m : Nat} (hm : m < 32) (x : Nat) : qa_ev (qa_mo m) x = qa_dv m x := by
  unfold qa_ev
  rw [qa_es_mo _ hm, decide_eq_true hm, Bool.true_and]
theorem qa_mul_xor (p q : Int32) (c : Nat) : qa_mul (p ^^^ q) c = qa_mul p c ^^^ qa_mul q c := qa_ls_xor _ p q 32
theorem qa_mul_0 (c : Nat) : qa_mul 0 c = 0 := qa_ls_0 _ 32
theorem qa_mul_mo {m : Nat} (hm : m < 32) (c : Nat) : qa_mul (qa_mo m) c = qa_mo (m ||| c) := qa_ls_mo (fun m => qa_mo (m ||| c)) hm hm
theorem qa_or32 {a b : Nat} (ha : a < 32) (hb : b < 32) : a ||| b < 32 := Nat.or_lt_two_pow (n := 5) ha hb
theorem qa_mul_bt {p : Int32} {c m : Nat} (hc : c < 32) (h : bt (qa_mul p c) m = true) : ∃ t, bt p t = true ∧ t ||| c = m := by
  have key : ∀ m, bt (qa_mul p c) m = true → ∃ t, bt p t = true ∧ t ||| c = m := by
    refine qa_ind (P := fun q => ∀ m, bt (qa_mul q c) m = true → ∃ t, bt p t = true ∧ t ||| c = m) p ?_ ?_
    · intro m h
      rw [qa_mul_0, b_0] at h; exact nomatch h
    · intro q t ht hb ih m h
      rw [qa_mul_xor, qa_mul_mo ht, b_xor, qa_bm (qa_or32 ht hc)] at h
      by_cases e : m = t ||| c
      · exact ⟨t, hb, e.symm⟩
      · rw [decide_eq_false e, Bool.xor_false] at h
        exact ih m h
  exact key m h
theorem qa_mul_ev (p : Int32) {c : Nat} (hc : c < 32) (x : Nat) : qa_ev (qa_mul p c) x = (qa_dv c x && qa_ev p x) := by
  refine qa_ind (P := fun q => qa_ev (qa_mul q c) x = (qa_dv c x && qa_ev q x)) p ?_ ?_
  · rw [qa_mul_0, qa_ev_0, Bool.and_false]
  · intro q m hm _ ih
    rw [qa_mul_xor, qa_mul_mo hm, qa_ev_xor, qa_ev_xor, ih, qa_ev_mo (qa_or32 hm hc), qa_ev_mo hm, qa_dv_or]
    cases qa_dv c x <;> cases qa_ev q x <;> cases qa_dv m x <;> rfl
theorem qa_mul_mul (p : Int32) {c d : Nat} (hc : c < 32) : qa_mul (qa_mul p c) d = qa_mul p (c ||| d) := by
  refine qa_ind (P := fun q => qa_mul (qa_mul q c) d = qa_mul q (c ||| d)) p ?_ ?_
  · rw [qa_mul_0, qa_mul_0, qa_mul_0]
  · intro q m hm _ ih
    rw [qa_mul_xor, qa_mul_mo hm, qa_mul_xor, qa_mul_mo (qa_or32 hm hc), qa_mul_xor, qa_mul_mo hm, ih, Nat.or_assoc]
theorem qa_mul_1 (p : Int32) : qa_mul p 0 = p := by
  refine qa_ind (P := fun q => qa_mul q 0 = q) p (qa_mul_0 0) ?_
  intro q m hm _ ih
  rw [qa_mul_xor, qa_mul_mo hm, ih, Nat.or_zero]
theorem qa_mul_in {s : Nat} (hs : qa_sz s) {p : Int32} (hp : qa_in s p) {c : Nat} (hc : c < s) : qa_in s (qa_mul p c) := by
  intro m h
  obtain ⟨t, ht, rfl⟩ := qa_mul_bt (Nat.lt_of_lt_of_le hc hs.2.1) h
  exact hs.2.2 _ _ (hp t ht) hc
theorem qa_in_xor {s : Nat} {p q : Int32} (hp : qa_in s p) (hq : qa_in s q) : qa_in s (p ^^^ q) := by
  intro m h
  rw [b_xor] at h
  cases e : bt p m
  · rw [e, Bool.false_xor] at h; exact hq m h
  · exact hp m e
theorem qa_in_0 (s : Nat) : qa_in s 0 := by
  intro m h; rw [b_0] at h; exact nomatch h
theorem qa_in_mo {s m : Nat} (hs : s ≤ 32) (hm : m < s) : qa_in s (qa_mo m) := by
  intro i h
  rw [qa_bm (by omega), decide_eq_true_eq] at h
  rw [h]; exact hm
theorem qa_in_32 (p : Int32) : qa_in 32 p := fun _ h => qa_lt h
theorem qa_pr_xor (p q r : Int32) : qa_pr (p ^^^ q) r = qa_pr p r ^^^ qa_pr q r := qa_ls_xor _ p q 32
theorem qa_pr_0 (r : Int32) : qa_pr 0 r = 0 := qa_ls_0 _ 32
theorem qa_pr_mo {m : Nat} (hm : m < 32) (r : Int32) : qa_pr (qa_mo m) r = qa_mul r m := qa_ls_mo (fun m => qa_mul r m) hm hm
theorem qa_pr_ev (p q : Int32) (x : Nat) : qa_ev (qa_pr p q) x = (qa_ev p x && qa_ev q x) := by
  refine qa_ind (P := fun r => qa_ev (qa_pr r q) x = (qa_ev r x && qa_ev q x)) p ?_ ?_
  · rw [qa_pr_0, qa_ev_0, Bool.false_and]
  · intro r m hm _ ih
    rw [qa_pr_xor, qa_pr_mo hm, qa_ev_xor, qa_ev_xor, ih, qa_mul_ev _ hm, qa_ev_mo hm]
    cases qa_ev r x <;> cases qa_dv m x <;> cases qa_ev q x <;> rfl
theorem qa_pr_in {s : Nat} (hs : qa_sz s) {p q : Int32} (hp : qa_in s p) (hq : qa_in s q) : qa_in s (qa_pr p q) := by
  refine qa_ind (P := fun r => qa_in s (qa_pr r q)) p ?_ ?_
  · rw [qa_pr_0]; exact qa_in_0 s
  · intro r m hm hb ih
    rw [qa_pr_xor, qa_pr_mo hm]
    exact qa_in_xor ih (qa_mul_in hs hq (hp m hb))
theorem qa_ev_no {p : Int32} {x : Nat} (h : ∀ m, bt p m = true → ¬ m &&& x = m) : qa_ev p x = false :=
  qa_es_no fun m _ hb => qa_dv_f.mpr (h m hb)
/-- a polynomial without values is zero -/
theorem qa_ev_z {s : Nat} {p : Int32} (hp : qa_in s p) (h : ∀ x, x < s → qa_ev p x = false) : p = 0 := by
  apply Classical.byContradiction
  intro hz
  obtain ⟨m, hm, hl⟩ := pk_least (fun m => bt p m = true) (qa_nz hz)
  have h32 := qa_lt hm
  have e1 : qa_ev (p ^^^ qa_mo m) m = false := by
    apply qa_ev_no
    intro t ht hd
    rw [b_xor, qa_bm h32] at ht
    by_cases e : t = m
    · rw [e, hm, decide_eq_true rfl] at ht; exact nomatch ht
    · rw [decide_eq_false e, Bool.xor_false] at ht
      have := qa_sb_le hd
      exact hl t (by omega) ht
  rw [qa_ev_xor, qa_ev_mo h32, qa_dv_t.mpr (qa_sb_refl m), h m (hp m hm)] at e1
  exact nomatch e1
theorem qa_ev_inj {s : Nat} {p q : Int32} (hp : qa_in s p) (hq : qa_in s q) (h : ∀ x, x < s → qa_ev p x = qa_ev q x) : p = q := by
  apply qa_x_eq
  refine qa_ev_z (qa_in_xor hp hq) fun x hx => ?_
  rw [qa_ev_xor, h x hx]
  cases qa_ev q x <;> rfl
theorem qa_pr_c (p q : Int32) : qa_pr p q = qa_pr q p :=
  qa_ev_inj (qa_in_32 _) (qa_in_32 _) fun x _ => by rw [qa_pr_ev, qa_pr_ev, Bool.and_comm]
/-- linear maps that agree on the monomials are equal -/
theorem qa_lin {F G : Int32 → Int32} (hF : ∀ p q, F (p ^^^ q) = F p ^^^ F q) (hG : ∀ p q, G (p ^^^ q) = G p ^^^ G q) (h : ∀ m, m < 32 → F (qa_mo m) = G (qa_mo m)) (p : Int32) : F p = G p := by
  have z : ∀ {H : Int32 → Int32}, (∀ p q, H (p ^^^ q) = H p ^^^ H q) → H 0 = 0 := by
    intro H hH
    have e := hH 0 0
    rw [qa_xx, qa_xx] at e
    exact e
  refine qa_ind (P := fun q => F q = G q) p ?_ ?_
  · rw [z hF, z hG]
  · intro q m hm _ ih
    rw [hF, hG, ih, h m hm]
end
section
/-! ===== the orders as additive weights ===== -/
def qa_b5 (a v : Nat) : Nat := if a.testBit v then 1 else 0
def qa_p5 (a : Nat) : Nat := qa_b5 a 0 + qa_b5 a 1 + qa_b5 a 2 + qa_b5 a 3 + qa_b5 a 4
def qa_lx (a : Nat) : Nat := 16 * qa_b5 a 0 + 8 * qa_b5 a 1 + 4 * qa_b5 a 2 + 2 * qa_b5 a 3 + qa_b5 a 4
def qa_w0 (o a : Nat) : Nat := if o = 0 then qa_lx a else if o = 1 then 32 * qa_p5 a + qa_lx a else 32 * qa_p5 a - a
theorem qa_w0_inj : ∀ o, o < 3 → ∀ a, a < 32 → ∀ b, b < 32 → qa_w0 o a = qa_w0 o b → a = b := by decide +kernel
theorem qa_w0_or : ∀ o, o < 3 → ∀ a, a < 32 → ∀ b, b < 32 → qa_w0 o (a ||| b) ≤ qa_w0 o a + qa_w0 o b := by decide +kernel
theorem qa_w0_dj : ∀ o, o < 3 → ∀ a, a < 32 → ∀ b, b < 32 → a &&& b = 0 → qa_w0 o (a ||| b) = qa_w0 o a + qa_w0 o b := by decide +kernel
theorem qa_w0_pos : ∀ o, o < 3 → ∀ a, a < 32 → a ≠ 0 → 0 < qa_w0 o a := by decide +kernel
theorem qa_w0_bd : ∀ o, o < 3 → ∀ a, a < 32 → qa_w0 o a < 1024 := by decide +kernel
theorem qa_w0_0 : ∀ o, o < 3 → qa_w0 o 0 = 0 := by decide +kernel
/-- the weight of a monomial in the block order of kind o with mask k -/
def qa_wt (o k a : Nat) : Nat := 1024 * qa_w0 o (a &&& k) + qa_w0 o (qa_df a k)
/-- what the theory needs of a weight -/
def qa_wo (w : Nat → Nat) : Prop :=
  (∀ a b, a < 32 → b < 32 → w a = w b → a = b) ∧ (∀ a b, a < 32 → b < 32 → w (a ||| b) ≤ w a + w b) ∧
  (∀ a b, a < 32 → b < 32 → a &&& b = 0 → w (a ||| b) = w a + w b) ∧ (∀ a, a < 32 → a ≠ 0 → 0 < w a)
theorem qa_an_lt {a k : Nat} (h : a < 32) : a &&& k < 32 := Nat.lt_of_le_of_lt Nat.and_le_left h
theorem qa_dn_lt {a k : Nat} (h : a < 32) : qa_df a k < 32 := Nat.lt_of_le_of_lt (qa_df_le a k) h
theorem qa_sp (a k : Nat) : (a &&& k) ||| qa_df a k = a := by
  apply Nat.eq_of_testBit_eq
  intro i
  rw [Nat.testBit_or, Nat.testBit_and, qa_dft]
  cases a.testBit i <;> cases k.testBit i <;> rfl
theorem qa_and_or (a b k : Nat) : (a ||| b) &&& k = (a &&& k) ||| (b &&& k) := by
  apply Nat.eq_of_testBit_eq
  intro i
  rw [Nat.testBit_or, Nat.testBit_and, Nat.testBit_and, Nat.testBit_and, Nat.testBit_or]
  cases a.testBit i <;> cases b.testBit i <;> cases k.testBit i <;> rfl
theorem qa_df_or2 (a b k : Nat) : qa_df (a ||| b) k = qa_df a k ||| qa_df b k := by
  apply Nat.eq_of_testBit_eq
  intro i
  rw [Nat.testBit_or, qa_dft, qa_dft, qa_dft, Nat.testBit_or]
  cases a.testBit i <;> cases b.testBit i <;> cases k.testBit i <;> rfl
theorem qa_dj1 {a b : Nat} (k : Nat) (h : a &&& b = 0) : (a &&& k) &&& (b &&& k) = 0 := by
  apply Nat.eq_of_testBit_eq
  intro i
  have h1 : (a &&& b).testBit i = false := by rw [h]; exact Nat.zero_testBit i
  rw [Nat.testBit_and] at h1
  rw [Nat.testBit_and, Nat.testBit_and, Nat.testBit_and, Nat.zero_testBit]
  revert h1
  cases a.testBit i <;> cases b.testBit i <;> cases k.testBit i <;> simp
theorem qa_dj2 {a b : Nat} (k : Nat) (h : a &&& b = 0) : qa_df a k &&& qa_df b k = 0 := by
  apply Nat.eq_of_testBit_eq
  intro i
  have h1 : (a &&& b).testBit i = false := by rw [h]; exact Nat.zero_testBit i
  rw [Nat.testBit_and] at h1
  rw [Nat.testBit_and, qa_dft, qa_dft, Nat.zero_testBit]
  revert h1
  cases a.testBit i <;> cases b.testBit i <;> cases k.testBit i <;> simp
theorem qa_wt_wo {o : Nat} (ho : o < 3) (k : Nat) : qa_wo (qa_wt o k) := by
  refine ⟨?_, ?_, ?_, ?_⟩
  · intro a b ha hb h
    unfold qa_wt at h
    have b1 := qa_w0_bd o ho (qa_df a k) (qa_dn_lt ha)
    have b2 := qa_w0_bd o ho (qa_df b k) (qa_dn_lt hb)
    have e1 := qa_w0_inj o ho (a &&& k) (qa_an_lt ha) (b &&& k) (qa_an_lt hb) (by omega)
    have e2 := qa_w0_inj o ho (qa_df a k) (qa_dn_lt ha) (qa_df b k) (qa_dn_lt hb) (by omega)
    rw [← qa_sp a k, ← qa_sp b k, e1, e2]
  · intro a b ha hb
    unfold qa_wt
    have e1 := qa_w0_or o ho (a &&& k) (qa_an_lt ha) (b &&& k) (qa_an_lt hb)
    have e2 := qa_w0_or o ho (qa_df a k) (qa_dn_lt ha) (qa_df b k) (qa_dn_lt hb)
    rw [qa_and_or, qa_df_or2]
    omega
  · intro a b ha hb h
    unfold qa_wt
    have e1 := qa_w0_dj o ho (a &&& k) (qa_an_lt ha) (b &&& k) (qa_an_lt hb) (qa_dj1 k h)
    have e2 := qa_w0_dj o ho (qa_df a k) (qa_dn_lt ha) (qa_df b k) (qa_dn_lt hb) (qa_dj2 k h)
    rw [qa_and_or, qa_df_or2]
    omega
  · intro a ha h
    unfold qa_wt
    by_cases z : a &&& k = 0
    · have := qa_w0_pos o ho (qa_df a k) (qa_dn_lt ha) (by
        intro e
        apply h
        rw [← qa_sp a k, z, e]; rfl)
      omega
    · have := qa_w0_pos o ho (a &&& k) (qa_an_lt ha) z
      omega
theorem qa_wt_0 {o : Nat} (ho : o < 3) (a : Nat) : qa_wt o 0 a = qa_w0 o a := by
  unfold qa_wt
  have e : qa_df a 0 = a := by
    apply Nat.eq_of_testBit_eq
    intro i
    rw [qa_dft, Nat.zero_testBit]
    cases a.testBit i <;> rfl
  rw [Nat.and_zero, qa_w0_0 o ho, e]
  omega
theorem qa_wt_bd {o : Nat} (ho : o < 3) (k : Nat) {a : Nat} (ha : a < 32) : qa_wt o k a < 1048576 := by
  unfold qa_wt
  have b1 := qa_w0_bd o ho (qa_df a k) (qa_dn_lt ha)
  have b2 := qa_w0_bd o ho (a &&& k) (qa_an_lt ha)
  omega
/-- in a block order the monomials below an unmasked one are unmasked -/
theorem qa_wt_blk {o : Nat} (ho : o < 3) {k a b : Nat} (ha : a < 32) (hb : b < 32) (h : b &&& k = 0) (hw : qa_wt o k a ≤ qa_wt o k b) : a &&& k = 0 := by
  apply Classical.byContradiction
  intro z
  unfold qa_wt at hw
  rw [h, qa_w0_0 o ho] at hw
  have := qa_w0_pos o ho (a &&& k) (qa_an_lt ha) z
  have := qa_w0_bd o ho (qa_df b k) (qa_dn_lt hb)
  omega
/-- the comparison in blocks is by weights -/
theorem qa_wt_gt {o : Nat} (ho : o < 3) {k a b : Nat} (ha : a < 32) (hb : b < 32) :
    (¬ a &&& k = b &&& k → (qa_wt o k b < qa_wt o k a ↔ qa_w0 o (b &&& k) < qa_w0 o (a &&& k))) ∧
    (a &&& k = b &&& k → (qa_wt o k b < qa_wt o k a ↔ qa_w0 o (qa_df b k) < qa_w0 o (qa_df a k))) := by
  have b1 := qa_w0_bd o ho (qa_df a k) (qa_dn_lt ha)
  have b2 := qa_w0_bd o ho (qa_df b k) (qa_dn_lt hb)
  unfold qa_wt
  constructor
  · intro h
    have : qa_w0 o (a &&& k) ≠ qa_w0 o (b &&& k) := fun e => h (qa_w0_inj o ho _ (qa_an_lt ha) _ (qa_an_lt hb) e)
    omega
  · intro h
    rw [h]
    omega
theorem qa_wo_0 {w : Nat → Nat} (hw : qa_wo w) : w 0 = 0 := by
  have := hw.2.2.1 0 0 (by decide) (by decide) rfl
  rw [show (0 ||| 0 : Nat) = 0 from rfl] at this
  omega
theorem qa_wo_sp {w : Nat → Nat} (hw : qa_wo w) {a b : Nat} (hb : b < 32) (h : a &&& b = a) : w b = w (qa_df b a) + w a := by
  have ha : a < 32 := Nat.lt_of_le_of_lt (qa_sb_le h) hb
  have e := hw.2.2.1 (qa_df b a) a (qa_dn_lt hb) ha (qa_df_dj b a)
  rw [qa_df_or h] at e
  exact e
theorem qa_wo_mono {w : Nat → Nat} (hw : qa_wo w) {a b : Nat} (hb : b < 32) (h : a &&& b = a) : w a ≤ w b := by
  have := qa_wo_sp hw hb h
  omega
end
section
/-! ===== leads ===== -/
def qa_ld (w : Nat → Nat) (p : Int32) (m : Nat) : Prop := bt p m = true ∧ ∀ t, bt p t = true → w t ≤ w m
theorem qa_ld_ex (w : Nat → Nat) {p : Int32} (h : ¬ p = 0) : ∃ m, qa_ld w p m := by
  have key : ∀ k, (∃ t, t < k ∧ bt p t = true) → ∃ m, bt p m = true ∧ ∀ t, t < k → bt p t = true → w t ≤ w m := by
    intro k
    induction k with
    | zero => intro ⟨t, ht, _⟩; omega
    | succ k ih =>
      intro ⟨t, ht, hb⟩
      by_cases z : ∃ t, t < k ∧ bt p t = true
      · obtain ⟨m, hm, hx⟩ := ih z
        by_cases c : bt p k = true ∧ w m < w k
        · refine ⟨k, c.1, fun u hu hbu => ?_⟩
          by_cases e : u = k
          · rw [e]; exact Nat.le_refl _
          · have := hx u (by omega) hbu
            omega
        · refine ⟨m, hm, fun u hu hbu => ?_⟩
          by_cases e : u = k
          · rw [e] at hbu ⊢
            apply Classical.byContradiction
            intro n
            exact c ⟨hbu, by omega⟩
          · exact hx u (by omega) hbu
      · have e : t = k := by
          apply Classical.byContradiction
          intro n
          exact z ⟨t, by omega, hb⟩
        subst e
        refine ⟨t, hb, fun u hu hbu => ?_⟩
        by_cases e : u = t
        · rw [e]; exact Nat.le_refl _
        · exact absurd ⟨u, by omega, hbu⟩ z
  obtain ⟨t, ht⟩ := qa_nz h
  obtain ⟨m, hm, hx⟩ := key 32 ⟨t, qa_lt ht, ht⟩
  exact ⟨m, hm, fun u hu => hx u (qa_lt hu) hu⟩
theorem qa_ld_un {w : Nat → Nat} (hw : qa_wo w) {p : Int32} {m k : Nat} (h : qa_ld w p m) (h' : qa_ld w p k) : m = k :=
  hw.1 m k (qa_lt h.1) (qa_lt h'.1) (Nat.le_antisymm (h'.2 m h.1) (h.2 k h'.1))
theorem qa_ld_lt {w : Nat → Nat} (hw : qa_wo w) {p : Int32} {m t : Nat} (h : qa_ld w p m) (ht : bt p t = true) (hn : ¬ t = m) : w t < w m := by
  have h1 := h.2 t ht
  have h2 : w t ≠ w m := fun e => hn (hw.1 t m (qa_lt ht) (qa_lt h.1) e)
  omega
theorem qa_tail {p : Int32} {m t : Nat} (hm : bt p m = true) (ht : bt (p ^^^ qa_mo m) t = true) : bt p t = true ∧ ¬ t = m := by
  rw [b_xor, qa_bm (qa_lt hm)] at ht
  by_cases e : t = m
  · rw [e, hm, decide_eq_true rfl] at ht; exact nomatch ht
  · rw [decide_eq_false e, Bool.xor_false] at ht
    exact ⟨ht, e⟩
theorem qa_ld_mul {w : Nat → Nat} (hw : qa_wo w) {p : Int32} {l c : Nat} (h : qa_ld w p l) (hc : c < 32) (hd : c &&& l = 0) : qa_ld w (qa_mul p c) (c ||| l) := by
  have hl := qa_lt h.1
  have e1 : w (c ||| l) = w c + w l := hw.2.2.1 c l hc hl hd
  constructor
  · have e2 : qa_mul p c = qa_mul (p ^^^ qa_mo l) c ^^^ qa_mo (l ||| c) := by
      rw [qa_mul_xor, qa_mul_mo hl, qa_xk]
    rw [e2, b_xor, qa_bm (qa_or32 hl hc), Nat.or_comm c l, decide_eq_true rfl]
    cases e3 : bt (qa_mul (p ^^^ qa_mo l) c) (l ||| c)
    · rfl
    · obtain ⟨t, ht, et⟩ := qa_mul_bt hc e3
      obtain ⟨ht1, ht2⟩ := qa_tail h.1 ht
      have h3 := qa_ld_lt hw h ht1 ht2
      have h4 := hw.2.1 t c (qa_lt ht1) hc
      rw [et, Nat.or_comm, e1] at h4
      omega
  · intro t ht
    obtain ⟨u, hu, rfl⟩ := qa_mul_bt hc ht
    have h3 := h.2 u hu
    have h4 := hw.2.1 u c (qa_lt hu) hc
    omega
/-! ===== the spans ===== -/
/-- the sums of multiples c * g i with w c + w (l i) < t -/
def qa_V (w : Nat → Nat) (s e : Nat) (g : Nat → Int32) (l : Nat → Nat) (t : Nat) (f : Int32) : Prop :=
  ∀ S : Int32 → Prop, S 0 → (∀ a b, S a → S b → S (a ^^^ b)) → (∀ i c, i < e → c < s → w c + w (l i) < t → S (qa_mul (g i) c)) → S f
section
variable {w : Nat → Nat} {s e : Nat} {g : Nat → Int32} {l : Nat → Nat}
theorem qa_V_0 (t : Nat) : qa_V w s e g l t 0 := fun _ h0 _ _ => h0
theorem qa_V_x {t : Nat} {a b : Int32} (ha : qa_V w s e g l t a) (hb : qa_V w s e g l t b) : qa_V w s e g l t (a ^^^ b) :=
  fun S h0 hx hg => hx a b (ha S h0 hx hg) (hb S h0 hx hg)
theorem qa_V_g {t i c : Nat} (hi : i < e) (hc : c < s) (h : w c + w (l i) < t) : qa_V w s e g l t (qa_mul (g i) c) :=
  fun _ _ _ hg => hg i c hi hc h
theorem qa_V_le {t t' : Nat} (h : t ≤ t') {a : Int32} (ha : qa_V w s e g l t a) : qa_V w s e g l t' a :=
  fun S h0 hx hg => ha S h0 hx fun i c hi hc hl => hg i c hi hc (by omega)
theorem qa_V_ext {t e' : Nat} {g' : Nat → Int32} {l' : Nat → Nat} (he : e ≤ e') (hg : ∀ i, i < e → g' i = g i) (hl : ∀ i, i < e → l' i = l i) {a : Int32} (ha : qa_V w s e g l t a) : qa_V w s e' g' l' t a :=
  fun S h0 hx h => ha S h0 hx fun i c hi hc hh => by
    have := h i c (by omega) hc (by rw [hl i hi]; exact hh)
    rw [hg i hi] at this
    exact this
theorem qa_V_mul (hw : qa_wo w) (hs : qa_sz s) {t d : Nat} (hd : d < s) {a : Int32} (ha : qa_V w s e g l t a) : qa_V w s e g l (t + w d) (qa_mul a d) := by
  refine ha (fun a => qa_V w s e g l (t + w d) (qa_mul a d)) ?_ ?_ ?_
  · show qa_V w s e g l (t + w d) (qa_mul 0 d)
    rw [qa_mul_0]; exact qa_V_0 _
  · intro a b h1 h2
    show qa_V w s e g l (t + w d) (qa_mul (a ^^^ b) d)
    rw [qa_mul_xor]; exact qa_V_x h1 h2
  · intro i c hi hc h
    show qa_V w s e g l (t + w d) (qa_mul (qa_mul (g i) c) d)
    have hc' := Nat.lt_of_lt_of_le hc hs.2.1
    have hd' := Nat.lt_of_lt_of_le hd hs.2.1
    rw [qa_mul_mul _ hc']
    refine qa_V_g hi (hs.2.2 c d hc hd) ?_
    have := hw.2.1 c d hc' hd'
    omega
theorem qa_V_in (hs : qa_sz s) (hg : ∀ i, i < e → qa_in s (g i)) {t : Nat} {a : Int32} (ha : qa_V w s e g l t a) : qa_in s a :=
  ha (qa_in s) (qa_in_0 s) (fun _ _ h1 h2 => qa_in_xor h1 h2) fun i _ hi hc _ => qa_mul_in hs (hg i hi) hc
theorem qa_V_bd (hw : qa_wo w) (hs : qa_sz s) (hg : ∀ i, i < e → qa_ld w (g i) (l i)) {t : Nat} {a : Int32} (ha : qa_V w s e g l t a) : ∀ m, bt a m = true → w m < t := by
  refine ha (fun a => ∀ m, bt a m = true → w m < t) ?_ ?_ ?_
  · intro m h; rw [b_0] at h; exact nomatch h
  · intro a b h1 h2 m h
    rw [b_xor] at h
    cases e1 : bt a m
    · rw [e1, Bool.false_xor] at h; exact h2 m h
    · exact h1 m e1
  · intro i c hi hc h m hm
    have hc' := Nat.lt_of_lt_of_le hc hs.2.1
    obtain ⟨u, hu, rfl⟩ := qa_mul_bt hc' hm
    have := (hg i hi).2 u hu
    have := hw.2.1 u c (qa_lt hu) hc'
    omega
theorem qa_V_ev (hs : qa_sz s) {x : Nat} (hg : ∀ i, i < e → qa_ev (g i) x = false) {t : Nat} {a : Int32} (ha : qa_V w s e g l t a) : qa_ev a x = false := by
  refine ha (fun a => qa_ev a x = false) (qa_ev_0 x) ?_ ?_
  · intro a b h1 h2
    show qa_ev (a ^^^ b) x = false
    rw [qa_ev_xor, h1, h2]; rfl
  · intro i c hi hc _
    show qa_ev (qa_mul (g i) c) x = false
    rw [qa_mul_ev _ (Nat.lt_of_lt_of_le hc hs.2.1), hg i hi, Bool.and_false]
/-! ===== pairs at a common multiple ===== -/
end
def qa_P (w : Nat → Nat) (s e : Nat) (g : Nat → Int32) (l : Nat → Nat) (m a b : Nat) : Prop :=
  qa_V w s e g l (w m) (qa_mul (g a) (qa_df m (l a)) ^^^ qa_mul (g b) (qa_df m (l b)))
/-- the pair of a with the equation of the variable v -/
def qa_Q (w : Nat → Nat) (s e : Nat) (g : Nat → Int32) (l : Nat → Nat) (a v : Nat) : Prop :=
  qa_V w s e g l (w (l a) + w (2 ^ v)) (qa_mul (g a) (2 ^ v))
section
variable {w : Nat → Nat} {s e : Nat} {g : Nat → Int32} {l : Nat → Nat}
theorem qa_P_s {m a b : Nat} (h : qa_P w s e g l m a b) : qa_P w s e g l m b a := by
  unfold qa_P at h ⊢
  rw [qa_xc]; exact h
theorem qa_P_t {m a b c : Nat} (h : qa_P w s e g l m a b) (h' : qa_P w s e g l m b c) : qa_P w s e g l m a c := by
  have := qa_V_x h h'
  rw [qa_xa, ← qa_xa (qa_mul (g b) _), qa_xx, qa_0x] at this
  exact this
theorem qa_P_r (m a : Nat) : qa_P w s e g l m a a := by
  unfold qa_P
  rw [qa_xx]; exact qa_V_0 _
theorem qa_P_up (hw : qa_wo w) (hs : qa_sz s) {m k a b : Nat} (hk : k < s) (ha : l a &&& m = l a) (hb : l b &&& m = l b) (hm : m &&& k = m) (h : qa_P w s e g l m a b) : qa_P w s e g l k a b := by
  have k32 := Nat.lt_of_lt_of_le hk hs.2.1
  have hm32 : m < 32 := Nat.lt_of_le_of_lt (qa_sb_le hm) k32
  have h1 := qa_V_mul hw hs (d := qa_df k m) (Nat.lt_of_le_of_lt (qa_df_le k m) hk) h
  rw [qa_mul_xor, qa_mul_mul _ (qa_dn_lt hm32), qa_mul_mul _ (qa_dn_lt hm32), qa_df_ch ha hm, qa_df_ch hb hm] at h1
  unfold qa_P
  rw [qa_wo_sp hw k32 hm, Nat.add_comm]
  exact h1
/-- chain criterion -/
theorem qa_chain (hw : qa_wo w) (hs : qa_sz s) {a b k : Nat} (hla : l a < s) (hlb : l b < s) (hk : l k &&& (l a ||| l b) = l k) (h1 : qa_P w s e g l (l a ||| l k) a k) (h2 : qa_P w s e g l (l k ||| l b) k b) : qa_P w s e g l (l a ||| l b) a b := by
  have hM := hs.2.2 _ _ hla hlb
  refine qa_P_t (qa_P_up hw hs hM (qa_sb_l _ _) (qa_sb_r _ _) ?_ h1) (qa_P_up hw hs hM (qa_sb_l _ _) (qa_sb_r _ _) ?_ h2)
  · exact qa_sb_or.mpr ⟨qa_sb_l _ _, hk⟩
  · exact qa_sb_or.mpr ⟨hk, qa_sb_r _ _⟩
/-- chain criterion for the pairs with an equation -/
theorem qa_chainQ (hw : qa_wo w) (hs : qa_sz s) {a k v : Nat} (hke : k < e) (hla : l a < s) (hv : (l a).testBit v = true) (hk : l k &&& l a = l k) (h1 : qa_P w s e g l (l a ||| l k) a k) (h2 : (l k).testBit v = true → qa_Q w s e g l k v) : qa_Q w s e g l a v := by
  have a32 := Nat.lt_of_lt_of_le hla hs.2.1
  have hlk : l k < s := Nat.lt_of_le_of_lt (qa_sb_le hk) hla
  have k32 := Nat.lt_of_lt_of_le hlk hs.2.1
  have hv1 : 2 ^ v &&& l a = 2 ^ v := qa_2p.mpr hv
  have hvs : 2 ^ v < s := Nat.lt_of_le_of_lt (qa_sb_le hv1) hla
  have v32 := Nat.lt_of_lt_of_le hvs hs.2.1
  have hM : l a ||| l k = l a := qa_sb_as (qa_sb_or.mpr ⟨qa_sb_refl _, hk⟩) (qa_sb_l _ _)
  rw [hM] at h1
  have h3 := qa_V_mul hw hs hvs h1
  have e0 : qa_df (l a) (l a) = 0 := by
    apply Nat.eq_of_testBit_eq
    intro i
    rw [qa_dft, Nat.zero_testBit]
    cases (l a).testBit i <;> rfl
  rw [qa_mul_xor, e0, qa_mul_1, qa_mul_mul _ (qa_dn_lt a32)] at h3
  have hd : qa_df (l a) (l k) < s := Nat.lt_of_le_of_lt (qa_df_le _ _) hla
  have wa := qa_wo_sp hw a32 hk
  have key : qa_V w s e g l (w (l a) + w (2 ^ v)) (qa_mul (g k) (qa_df (l a) (l k) ||| 2 ^ v)) := by
    by_cases z : (l k).testBit v = true
    · have h4 := qa_V_mul hw hs hd (h2 z)
      rw [qa_mul_mul _ v32, Nat.or_comm] at h4
      refine qa_V_le ?_ h4
      omega
    · have e1 : qa_df (l a) (l k) ||| 2 ^ v = qa_df (l a) (l k) := by
        refine qa_sb_as (qa_sb_or.mpr ⟨qa_sb_refl _, qa_2p.mpr ?_⟩) (qa_sb_l _ _)
        rw [qa_dft, hv]
        cases zz : (l k).testBit v
        · rfl
        · exact absurd zz z
      rw [e1]
      refine qa_V_g hke hd ?_
      have : 2 ^ v ≠ 0 := Nat.ne_of_gt (Nat.two_pow_pos v)
      have := hw.2.2.2 _ v32 this
      omega
  have h5 := qa_V_x h3 key
  rw [qa_xk] at h5
  exact h5
theorem qa_pr_V (hw : qa_wo w) {a t : Nat} (ha : a < e) {q : Int32} (hq : qa_in s q) (h : ∀ m, bt q m = true → w m + w (l a) < t) : qa_V w s e g l t (qa_pr q (g a)) := by
  refine qa_ind (P := fun r => qa_V w s e g l t (qa_pr r (g a))) q ?_ ?_
  · show qa_V w s e g l t (qa_pr 0 (g a))
    rw [qa_pr_0]; exact qa_V_0 t
  · intro r m hm hb ih
    show qa_V w s e g l t (qa_pr (r ^^^ qa_mo m) (g a))
    rw [qa_pr_xor, qa_pr_mo hm]
    exact qa_V_x ih (qa_V_g ha (hq m hb) (h m hb))
/-- product criterion -/
theorem qa_prod (hw : qa_wo w) (hs : qa_sz s) (hg : ∀ i, i < e → qa_in s (g i) ∧ qa_ld w (g i) (l i)) {a b : Nat} (ha : a < e) (hb : b < e) (h : l a &&& l b = 0) : qa_P w s e g l (l a ||| l b) a b := by
  have a32 := qa_lt (hg a ha).2.1
  have b32 := qa_lt (hg b hb).2.1
  unfold qa_P
  rw [qa_df_of h, qa_df_of' h, hw.2.2.1 _ _ a32 b32 h]
  have ia := qa_in_xor (hg a ha).1 (qa_in_mo hs.2.1 ((hg a ha).1 _ (hg a ha).2.1))
  have ib := qa_in_xor (hg b hb).1 (qa_in_mo hs.2.1 ((hg b hb).1 _ (hg b hb).2.1))
  have v1 : qa_V w s e g l (w (l a) + w (l b)) (qa_pr (g b ^^^ qa_mo (l b)) (g a)) := by
    refine qa_pr_V hw ha ib fun m hm => ?_
    obtain ⟨h1, h2⟩ := qa_tail (hg b hb).2.1 hm
    have := qa_ld_lt hw (hg b hb).2 h1 h2
    omega
  have v2 : qa_V w s e g l (w (l a) + w (l b)) (qa_pr (g a ^^^ qa_mo (l a)) (g b)) := by
    refine qa_pr_V hw hb ia fun m hm => ?_
    obtain ⟨h1, h2⟩ := qa_tail (hg a ha).2.1 hm
    have := qa_ld_lt hw (hg a ha).2 h1 h2
    omega
  have v3 := qa_V_x v1 v2
  rw [qa_pr_xor, qa_pr_mo b32, qa_pr_xor, qa_pr_mo a32, qa_pr_c (g b) (g a)] at v3
  have e1 : ∀ x y z : Int32, (x ^^^ y) ^^^ (x ^^^ z) = y ^^^ z := by
    intro x y z
    rw [qa_xc x y, qa_xa, qa_xk']
  rw [e1] at v3
  exact v3
/-- a step down: what is spanned below t + 1 is spanned below t but for one multiple at most -/
theorem qa_step (hw : qa_wo w) (hs : qa_sz s) (hg : ∀ i, i < e → qa_in s (g i) ∧ qa_ld w (g i) (l i))
    (hQ : ∀ a v, a < e → (l a).testBit v = true → qa_Q w s e g l a v) (hP : ∀ a b, a < e → b < e → qa_P w s e g l (l a ||| l b) a b)
    {t : Nat} {f : Int32} (h : qa_V w s e g l (t + 1) f) :
    qa_V w s e g l t f ∨ ∃ i c, i < e ∧ c < s ∧ c &&& l i = 0 ∧ w c + w (l i) = t ∧ qa_V w s e g l t (f ^^^ qa_mul (g i) c) := by
  have hl : ∀ i, i < e → l i < s := fun i hi => (hg i hi).1 _ (hg i hi).2.1
  refine h (fun f => qa_V w s e g l t f ∨ ∃ i c, i < e ∧ c < s ∧ c &&& l i = 0 ∧ w c + w (l i) = t ∧ qa_V w s e g l t (f ^^^ qa_mul (g i) c)) ?_ ?_ ?_
  · exact Or.inl (qa_V_0 t)
  · intro a b ha hb
    rcases ha with ha | ⟨i, c, hi, hc, hd, ht, ha⟩
    · rcases hb with hb | ⟨j, d, hj, hd, hdd, htt, hb⟩
      · exact Or.inl (qa_V_x ha hb)
      · refine Or.inr ⟨j, d, hj, hd, hdd, htt, ?_⟩
        rw [qa_xa]
        exact qa_V_x ha hb
    · rcases hb with hb | ⟨j, d, hj, hd', hdd, htt, hb⟩
      · refine Or.inr ⟨i, c, hi, hc, hd, ht, ?_⟩
        rw [qa_xa, qa_xc b, ← qa_xa]
        exact qa_V_x ha hb
      · left
        have c32 := Nat.lt_of_lt_of_le hc hs.2.1
        have d32 := Nat.lt_of_lt_of_le hd' hs.2.1
        have i32 := Nat.lt_of_lt_of_le (hl i hi) hs.2.1
        have j32 := Nat.lt_of_lt_of_le (hl j hj) hs.2.1
        have w1 := hw.2.2.1 c (l i) c32 i32 hd
        have w2 := hw.2.2.1 d (l j) d32 j32 hdd
        have eM : c ||| l i = d ||| l j := hw.1 _ _ (qa_or32 c32 i32) (qa_or32 d32 j32) (by omega)
        have hMs : c ||| l i < s := hs.2.2 _ _ hc (hl i hi)
        have p := qa_P_up hw hs (k := c ||| l i) hMs (qa_sb_l _ _) (qa_sb_r _ _) (qa_sb_or.mpr ⟨qa_sb_r _ _, by rw [eM]; exact qa_sb_r _ _⟩) (hP i j hi hj)
        unfold qa_P at p
        rw [w1, ht] at p
        have e1 : qa_df (c ||| l i) (l i) = c := qa_df_of hd
        have e2 : qa_df (c ||| l i) (l j) = d := by rw [eM]; exact qa_df_of hdd
        rw [e1, e2] at p
        have q := qa_V_x (qa_V_x ha hb) p
        have e3 : ∀ x y z u : Int32, ((x ^^^ y) ^^^ (z ^^^ u)) ^^^ (y ^^^ u) = x ^^^ z := by
          intro x y z u
          apply b_ext; intro k _
          simp only [b_xor]
          cases bt x k <;> cases bt y k <;> cases bt z k <;> cases bt u k <;> rfl
        rw [e3] at q
        exact q
  · intro i c hi hc h
    have c32 := Nat.lt_of_lt_of_le hc hs.2.1
    by_cases ht : w c + w (l i) < t
    · exact Or.inl (qa_V_g hi hc ht)
    · have ht' : w c + w (l i) = t := by omega
      by_cases hd : c &&& l i = 0
      · refine Or.inr ⟨i, c, hi, hc, hd, ht', ?_⟩
        rw [qa_xx]
        exact qa_V_0 t
      · left
        obtain ⟨v, h1, h2⟩ := qa_mt hd
        have hv : 2 ^ v &&& c = 2 ^ v := qa_2p.mpr h1
        have v32 : 2 ^ v < 32 := Nat.lt_of_le_of_lt (qa_sb_le hv) c32
        have q := qa_V_mul hw hs (d := qa_df c (2 ^ v)) (Nat.lt_of_le_of_lt (qa_df_le _ _) hc) (hQ i v hi h2)
        rw [qa_mul_mul _ v32, Nat.or_comm, qa_df_or hv] at q
        have wc := qa_wo_sp hw c32 hv
        refine qa_V_le ?_ q
        omega
/-- Buchberger: the lead of what is spanned is a multiple of a lead -/
theorem qa_buch (hw : qa_wo w) (hs : qa_sz s) (hg : ∀ i, i < e → qa_in s (g i) ∧ qa_ld w (g i) (l i))
    (hQ : ∀ a v, a < e → (l a).testBit v = true → qa_Q w s e g l a v) (hP : ∀ a b, a < e → b < e → qa_P w s e g l (l a ||| l b) a b) :
    ∀ t f, qa_V w s e g l t f → ∀ m, qa_ld w f m → ∃ i, i < e ∧ l i &&& m = l i := by
  intro t
  induction t with
  | zero =>
    intro f h m hm
    have := qa_V_bd hw hs (fun i hi => (hg i hi).2) h m hm.1
    omega
  | succ t ih =>
    intro f h m hm
    rcases qa_step hw hs hg hQ hP h with h | ⟨i, c, hi, hc, hd, ht, hv⟩
    · exact ih f h m hm
    · refine ⟨i, hi, ?_⟩
      have c32 := Nat.lt_of_lt_of_le hc hs.2.1
      have l32 := qa_lt (hg i hi).2.1
      have hbd := qa_V_bd hw hs (fun i hi => (hg i hi).2) hv
      have hL := qa_ld_mul hw (hg i hi).2 c32 hd
      have wM := hw.2.2.1 c (l i) c32 l32 hd
      have b1 : bt f (c ||| l i) = true := by
        cases e1 : bt f (c ||| l i)
        · have := hbd (c ||| l i) (by rw [b_xor, e1, hL.1]; rfl)
          omega
        · rfl
      have h1 := hm.2 _ b1
      have h2 : w m ≤ t := by
        cases e1 : bt (qa_mul (g i) c) m
        · have := hbd m (by rw [b_xor, e1, hm.1]; rfl)
          omega
        · have := hL.2 m e1
          omega
      have e2 : m = c ||| l i := hw.1 _ _ (qa_lt hm.1) (qa_or32 c32 l32) (by omega)
      rw [e2]
      exact qa_sb_r _ _
/-- what vanishes on the common zeros is spanned -/
theorem qa_ideal (hw : qa_wo w) (hs : qa_sz s) {T : Nat} (hg : ∀ i, i < e → qa_in s (g i)) (hT : ∀ i c, i < e → c < s → w c + w (l i) < T) :
    ∀ k, k ≤ e → ∀ f, qa_in s f → (∀ x, x < s → (∀ i, i < k → qa_ev (g i) x = false) → qa_ev f x = false) → qa_V w s e g l T f := by
  intro k
  induction k with
  | zero =>
    intro _ f hf h
    rw [qa_ev_z hf fun x hx => h x hx fun i hi => absurd hi (Nat.not_lt_zero i)]
    exact qa_V_0 T
  | succ k ih =>
    intro hk f hf h
    have hk' : k < e := by omega
    have v1 : qa_V w s e g l T (f ^^^ qa_pr f (g k)) := by
      refine ih (by omega) _ (qa_in_xor hf (qa_pr_in hs hf (hg k hk'))) fun x hx hz => ?_
      rw [qa_ev_xor, qa_pr_ev]
      cases e1 : qa_ev (g k) x
      · have := h x hx fun i hi => by
          by_cases e2 : i = k
          · rw [e2]; exact e1
          · exact hz i (by omega)
        rw [this]; rfl
      · cases qa_ev f x <;> rfl
    have v2 : qa_V w s e g l T (qa_pr f (g k)) := qa_pr_V hw hk' hf fun m hm => hT k m hk' (hf m hm)
    have v3 := qa_V_x v1 v2
    rw [qa_xk] at v3
    exact v3
end
end
section
/-! ===== normal forms ===== -/
def qa_van (s : Nat) (Z : Nat → Prop) (p : Int32) : Prop := ∀ x, x < s → Z x → qa_ev p x = false
/-- no polynomial with this lead vanishes on Z -/
def qa_std (w : Nat → Nat) (s : Nat) (Z : Nat → Prop) (m : Nat) : Prop := ∀ f, qa_in s f → qa_ld w f m → ¬ qa_van s Z f
def qa_nf (w : Nat → Nat) (s : Nat) (Z : Nat → Prop) (p r : Int32) : Prop := qa_in s r ∧ qa_van s Z (p ^^^ r) ∧ ∀ m, bt r m = true → qa_std w s Z m
def qa_G (w : Nat → Nat) (s e : Nat) (g : Nat → Int32) (l : Nat → Nat) (Z : Nat → Prop) : Prop :=
  (∀ i, i < e → qa_in s (g i) ∧ qa_ld w (g i) (l i) ∧ qa_van s Z (g i)) ∧
  (∀ f m, qa_in s f → qa_van s Z f → qa_ld w f m → ∃ i, i < e ∧ l i &&& m = l i)
/-- a least lead -/
def qa_mn (w : Nat → Nat) (s : Nat) (Z : Nat → Prop) (m : Nat) : Prop :=
  m < s ∧ ¬ qa_std w s Z m ∧ ∀ d, d < s → ¬ d = m → d &&& m = d → qa_std w s Z d
section
variable {w : Nat → Nat} {s e : Nat} {g : Nat → Int32} {l : Nat → Nat} {Z : Nat → Prop}
theorem qa_van_x {p q : Int32} (hp : qa_van s Z p) (hq : qa_van s Z q) : qa_van s Z (p ^^^ q) := fun x hx hz => by
  rw [qa_ev_xor, hp x hx hz, hq x hx hz]; rfl
theorem qa_van_0 : qa_van s Z 0 := fun x _ _ => qa_ev_0 x
theorem qa_van_mul {p : Int32} (hp : qa_van s Z p) {c : Nat} (hc : c < 32) : qa_van s Z (qa_mul p c) := fun x hx hz => by
  rw [qa_mul_ev _ hc, hp x hx hz, Bool.and_false]
theorem qa_nf_un {p r r' : Int32} (h : qa_nf w s Z p r) (h' : qa_nf w s Z p r') : r = r' := by
  apply qa_x_eq
  apply Classical.byContradiction
  intro hz
  obtain ⟨m, hm⟩ := qa_ld_ex w hz
  have hv : qa_van s Z (r ^^^ r') := by
    have := qa_van_x h.2.1 h'.2.1
    rw [qa_xc p r, qa_xa, qa_xk'] at this
    exact this
  have hi := qa_in_xor h.1 h'.1
  have hb := hm.1
  rw [b_xor] at hb
  cases e1 : bt r m
  · rw [e1, Bool.false_xor] at hb
    exact h'.2.2 m hb _ hi hm hv
  · exact h.2.2 m e1 _ hi hm hv
theorem qa_nf_0 {p : Int32} (h : qa_van s Z p) : qa_nf w s Z p 0 :=
  ⟨qa_in_0 s, by rw [qa_x0]; exact h, fun m hm => by rw [b_0] at hm; exact nomatch hm⟩
theorem qa_nf_z {p r : Int32} (h : qa_nf w s Z p r) : r = 0 ↔ qa_van s Z p := by
  constructor
  · intro e
    have := h.2.1
    rw [e, qa_x0] at this
    exact this
  · intro hv
    exact qa_nf_un h (qa_nf_0 hv)
theorem qa_nf_mo (hs : qa_sz s) {m : Nat} {r : Int32} (hm : m < s) (h : qa_nf w s Z (qa_mo m) r) : r = qa_mo m ↔ qa_std w s Z m := by
  have m32 := Nat.lt_of_lt_of_le hm hs.2.1
  constructor
  · intro e
    exact h.2.2 m (by rw [e, qa_bm m32]; exact decide_eq_true rfl)
  · intro hd
    refine qa_nf_un h ⟨qa_in_mo hs.2.1 hm, ?_, ?_⟩
    · rw [qa_xx]; exact qa_van_0
    · intro t ht
      rw [qa_bm m32, decide_eq_true_eq] at ht
      rw [ht]; exact hd
theorem qa_std_up (hw : qa_wo w) (hs : qa_sz s) {d m : Nat} (hm : m < s) (h : d &&& m = d) (hd : ¬ qa_std w s Z d) : ¬ qa_std w s Z m := by
  intro hst
  apply hd
  intro f hf hl hv
  have m32 := Nat.lt_of_lt_of_le hm hs.2.1
  have hc : qa_df m d < s := Nat.lt_of_le_of_lt (qa_df_le m d) hm
  have hL := qa_ld_mul hw hl (c := qa_df m d) (qa_dn_lt m32) (qa_df_dj m d)
  rw [qa_df_or h] at hL
  exact hst _ (qa_mul_in hs hf hc) hL (qa_van_mul hv (qa_dn_lt m32))
theorem qa_G_lt (h : qa_G w s e g l Z) {i : Nat} (hi : i < e) : l i < s := (h.1 i hi).1 _ (h.1 i hi).2.1.1
theorem qa_G_ns (h : qa_G w s e g l Z) {i : Nat} (hi : i < e) : ¬ qa_std w s Z (l i) := fun hd => hd _ (h.1 i hi).1 (h.1 i hi).2.1 (h.1 i hi).2.2
theorem qa_G_std (hw : qa_wo w) (hs : qa_sz s) (h : qa_G w s e g l Z) {m : Nat} (hm : m < s) : qa_std w s Z m ↔ ∀ i, i < e → ¬ l i &&& m = l i := by
  constructor
  · intro hd i hi hb
    exact qa_std_up hw hs hm hb (qa_G_ns h hi) hd
  · intro hn f hf hl hv
    obtain ⟨i, hi, hb⟩ := h.2 f m hf hv hl
    exact hn i hi hb
theorem qa_G_mn (hw : qa_wo w) (hs : qa_sz s) (h : qa_G w s e g l Z) {m : Nat} (hm : m < s) : qa_mn w s Z m ↔ (∃ i, i < e ∧ l i = m) ∧ ∀ j, j < e → ¬ l j = m → ¬ l j &&& m = l j := by
  constructor
  · intro ⟨_, hn, hx⟩
    refine ⟨?_, ?_⟩
    · apply Classical.byContradiction
      intro hc
      apply hn
      rw [qa_G_std hw hs h hm]
      intro i hi hb
      have h1 : ¬ l i = m := fun e1 => hc ⟨i, hi, e1⟩
      exact qa_G_ns h hi (hx _ (qa_G_lt h hi) h1 hb)
    · intro j hj hne hb
      exact qa_G_ns h hj (hx _ (qa_G_lt h hj) hne hb)
  · intro ⟨⟨i, hi, ei⟩, hx⟩
    refine ⟨hm, by rw [← ei]; exact qa_G_ns h hi, ?_⟩
    intro d hd hne hb
    rw [qa_G_std hw hs h hd]
    intro j hj hj2
    have h3 := qa_sb_tr hj2 hb
    have h4 : l j = m := by
      apply Classical.byContradiction
      intro h5
      exact hx j hj h5 h3
    rw [h4] at hj2
    exact hne (qa_sb_as hb hj2)
theorem qa_mn_ex : ∀ m, m < s → ¬ qa_std w s Z m → ∃ d, qa_mn w s Z d ∧ d &&& m = d := by
  intro m
  induction m using Nat.strongRecOn with
  | ind m ih =>
    intro hm hn
    by_cases z : ∃ d, d < s ∧ ¬ d = m ∧ d &&& m = d ∧ ¬ qa_std w s Z d
    · obtain ⟨d, hd, hne, hb, hnd⟩ := z
      have := qa_sb_le hb
      obtain ⟨d', h1, h2⟩ := ih d (by omega) hd hnd
      exact ⟨d', h1, qa_sb_tr h2 hb⟩
    · refine ⟨m, ⟨hm, hn, ?_⟩, qa_sb_refl m⟩
      intro d hd hne hb
      apply Classical.byContradiction
      intro hnd
      exact z ⟨d, hd, hne, hb, hnd⟩
/-- the lead of a least lead's basis element -/
theorem qa_nf_ld (hw : qa_wo w) (hs : qa_sz s) {m : Nat} {r : Int32} (hm : m < s) (hn : ¬ qa_std w s Z m) (h : qa_nf w s Z (qa_mo m) r) : qa_ld w (qa_mo m ^^^ r) m ∧ qa_in s (qa_mo m ^^^ r) := by
  have m32 := Nat.lt_of_lt_of_le hm hs.2.1
  have hr : bt r m = false := by
    cases e1 : bt r m
    · rfl
    · exact absurd (h.2.2 m e1) hn
  have hb : bt (qa_mo m ^^^ r) m = true := by
    rw [b_xor, hr, qa_bm m32, decide_eq_true rfl]; rfl
  have hi := qa_in_xor (qa_in_mo hs.2.1 hm) h.1
  obtain ⟨k, hk⟩ := qa_ld_ex w (qa_nz' hb)
  have e1 : k = m := by
    apply Classical.byContradiction
    intro hne
    have := hk.1
    rw [b_xor, qa_bm m32, decide_eq_false hne, Bool.false_xor] at this
    exact h.2.2 k this _ hi hk h.2.1
  rw [e1] at hk
  exact ⟨hk, hi⟩
/-! ===== reduction to zero by a part of the elements ===== -/
theorem qa_red0 (hw : qa_wo w) (hs : qa_sz s) {k x : Nat} {I : Nat → Prop}
    (hI : ∀ i, I i → qa_in s (g i) ∧ qa_ld w (g i) (l i) ∧ qa_van s Z (g i) ∧ (∀ m, bt (g i) m = true → m &&& k = 0) ∧ qa_ev (g i) x = false)
    (hR : ∀ f m, qa_in s f → qa_van s Z f → (∀ m, bt f m = true → m &&& k = 0) → qa_ld w f m → ∃ i, I i ∧ l i &&& m = l i) :
    ∀ t f, qa_in s f → qa_van s Z f → (∀ m, bt f m = true → m &&& k = 0) → (∀ m, bt f m = true → w m < t) → qa_ev f x = false := by
  intro t
  induction t with
  | zero =>
    intro f _ _ _ hb
    by_cases hz : f = 0
    · rw [hz]; exact qa_ev_0 x
    · obtain ⟨m, hm⟩ := qa_nz hz
      exact absurd (hb m hm) (by omega)
  | succ t ih =>
    intro f hf hv hk hb
    by_cases hz : f = 0
    · rw [hz]; exact qa_ev_0 x
    · obtain ⟨m, hm⟩ := qa_ld_ex w hz
      obtain ⟨i, hi, hd⟩ := hR f m hf hv hk hm
      obtain ⟨g1, g2, g3, g4, g5⟩ := hI i hi
      have ms := hf m hm.1
      have m32 := qa_lt hm.1
      have hc : qa_df m (l i) < s := Nat.lt_of_le_of_lt (qa_df_le _ _) ms
      have c32 := qa_dn_lt (k := l i) m32
      have hL := qa_ld_mul hw g2 c32 (qa_df_dj m (l i))
      rw [qa_df_or hd] at hL
      have key : qa_ev (f ^^^ qa_mul (g i) (qa_df m (l i))) x = false := by
        refine ih _ (qa_in_xor hf (qa_mul_in hs g1 hc)) (qa_van_x hv (qa_van_mul g3 c32)) ?_ ?_
        · intro u hu
          rw [b_xor] at hu
          cases e1 : bt f u
          · rw [e1, Bool.false_xor] at hu
            obtain ⟨v, hv1, rfl⟩ := qa_mul_bt c32 hu
            rw [qa_and_or, g4 v hv1]
            have h1 := hk m hm.1
            have h2 : qa_df m (l i) &&& k = 0 := by
              apply Nat.eq_of_testBit_eq
              intro j
              have h3 : (m &&& k).testBit j = false := by rw [h1]; exact Nat.zero_testBit j
              rw [Nat.testBit_and] at h3
              rw [Nat.testBit_and, qa_dft, Nat.zero_testBit]
              revert h3
              cases m.testBit j <;> cases k.testBit j <;> simp
            rw [h2]; rfl
          · exact hk u e1
        · intro u hu
          have hum : ¬ u = m := by
            intro e1
            rw [e1, b_xor, hm.1, hL.1] at hu
            exact nomatch hu
          have hmt := hb m hm.1
          rw [b_xor] at hu
          cases e1 : bt f u
          · rw [e1, Bool.false_xor] at hu
            have := qa_ld_lt hw hL hu hum
            omega
          · have := qa_ld_lt hw hm e1 hum
            omega
      rw [qa_ev_xor, qa_mul_ev _ c32, g5, Bool.and_false, Bool.xor_false] at key
      exact key
end
/-! ===== polynomials with given values ===== -/
theorem qa_dv_df {t x k : Nat} (h : t &&& k = 0) : qa_dv t x = qa_dv t (qa_df x k) := by
  rw [Bool.eq_iff_iff, qa_dv_t, qa_dv_t, qa_sb, qa_sb]
  constructor
  · intro h1 i hi
    have h2 : (t &&& k).testBit i = false := by rw [h]; exact Nat.zero_testBit i
    rw [Nat.testBit_and, hi, Bool.true_and] at h2
    rw [qa_dft, h1 i hi, h2]; rfl
  · intro h1 i hi
    have := h1 i hi
    rw [qa_dft, Bool.and_eq_true] at this
    exact this.1
theorem qa_ev_df {p : Int32} {k : Nat} (h : ∀ m, bt p m = true → m &&& k = 0) (x : Nat) : qa_ev p x = qa_ev p (qa_df x k) :=
  qa_es_cg fun m _ hb => qa_dv_df (h m hb)
theorem qa_itp {s : Nat} (hs : s ≤ 32) {k : Nat} {h : Nat → Bool} (hh : ∀ x, x < s → h x = h (qa_df x k)) : ∃ p, qa_in s p ∧ (∀ m, bt p m = true → m &&& k = 0) ∧ ∀ x, x < s → qa_ev p x = h x := by
  have key : ∀ j, j ≤ s → ∃ p, qa_in s p ∧ (∀ m, bt p m = true → m &&& k = 0) ∧ ∀ x, x < j → qa_ev p x = h x := by
    intro j
    induction j with
    | zero => exact fun _ => ⟨0, qa_in_0 s, (fun m hm => by rw [b_0] at hm; exact (nomatch hm)), fun x hx => absurd hx (Nat.not_lt_zero x)⟩
    | succ j ih =>
      intro hj
      obtain ⟨p, hp, hk, hv⟩ := ih (by omega)
      by_cases z : qa_ev p j = h j
      · refine ⟨p, hp, hk, fun x hx => ?_⟩
        by_cases e : x = j
        · rw [e]; exact z
        · exact hv x (by omega)
      · have hjk : j &&& k = 0 := by
          apply Classical.byContradiction
          intro hne
          apply z
          have hlt : qa_df j k < j := by
            have h1 := qa_df_le j k
            have h2 : qa_df j k ≠ j := by
              intro e
              apply hne
              have := qa_df_dj j k
              rw [e] at this
              exact this
            omega
          rw [qa_ev_df hk, hv _ hlt, ← hh j (by omega)]
        have j32 : j < 32 := by omega
        refine ⟨p ^^^ qa_mo j, qa_in_xor hp (qa_in_mo hs (by omega)), ?_, ?_⟩
        · intro m hm
          rw [b_xor, qa_bm j32] at hm
          by_cases e : m = j
          · rw [e]; exact hjk
          · rw [decide_eq_false e, Bool.xor_false] at hm
            exact hk m hm
        · intro x hx
          rw [qa_ev_xor, qa_ev_mo j32]
          by_cases e : x = j
          · rw [e, qa_dv_t.mpr (qa_sb_refl j)]
            revert z
            cases qa_ev p j <;> cases h j <;> simp
          · have : qa_dv j x = false := qa_dv_f.mpr fun hd => by
              have := qa_sb_le hd
              omega
            rw [this, Bool.xor_false]
            exact hv x (by omega)
  exact key s (Nat.le_refl s)
section
variable {w : Nat → Nat} {s e : Nat} {g : Nat → Int32} {l : Nat → Nat} {Z : Nat → Prop}
/-- the zeros of the part of the elements that is free of the mask -/
theorem qa_elim (hw : qa_wo w) (hs : qa_sz s) {B : Nat} (hB : ∀ a, a < 32 → w a < B) {k : Nat} {I : Nat → Prop}
    (hI : ∀ i, I i → qa_in s (g i) ∧ qa_ld w (g i) (l i) ∧ qa_van s Z (g i) ∧ (∀ m, bt (g i) m = true → m &&& k = 0))
    (hR : ∀ f m, qa_in s f → qa_van s Z f → (∀ m, bt f m = true → m &&& k = 0) → qa_ld w f m → ∃ i, I i ∧ l i &&& m = l i)
    {x : Nat} (hx : x < s) : (∀ i, I i → qa_ev (g i) x = false) ↔ ∃ q, q < s ∧ Z q ∧ qa_df x k = qa_df q k := by
  constructor
  · intro h
    apply Classical.byContradiction
    intro hn
    obtain ⟨f, hf, hfk, hfv⟩ := qa_itp (s := s) hs.2.1 (k := k) (h := fun y => decide (qa_df x k = qa_df y k)) (by
      intro y _
      have e : qa_df (qa_df y k) k = qa_df y k := by
        apply Nat.eq_of_testBit_eq
        intro i
        rw [qa_dft, qa_dft]
        cases y.testBit i <;> cases k.testBit i <;> rfl
      show decide _ = decide _
      rw [e])
    have hv : qa_van s Z f := by
      intro y hy hz
      rw [hfv y hy]
      exact decide_eq_false fun e => hn ⟨y, hy, hz, e⟩
    have h0 := qa_red0 hw hs (Z := Z) (k := k) (x := x) (I := I) (g := g) (l := l) (fun i hi => ⟨(hI i hi).1, (hI i hi).2.1, (hI i hi).2.2.1, (hI i hi).2.2.2, h i hi⟩) hR B f hf hv hfk (fun m hm => hB m (qa_lt hm))
    rw [hfv x hx] at h0
    exact absurd h0 (by rw [decide_eq_true rfl]; decide)
  · intro ⟨q, hq, hz, e⟩ i hi
    obtain ⟨_, _, h3, h4⟩ := hI i hi
    rw [qa_ev_df h4, e, ← qa_ev_df h4]
    exact h3 q hq hz
theorem qa_G_zeros (hw : qa_wo w) (hs : qa_sz s) {B : Nat} (hB : ∀ a, a < 32 → w a < B) (h : qa_G w s e g l Z) {x : Nat} (hx : x < s) : (∀ i, i < e → qa_ev (g i) x = false) ↔ Z x := by
  have e0 : ∀ y, qa_df y 0 = y := by
    intro y
    apply Nat.eq_of_testBit_eq
    intro i
    rw [qa_dft, Nat.zero_testBit]
    cases y.testBit i <;> rfl
  rw [qa_elim hw hs hB (k := 0) (I := fun i => i < e) (g := g) (l := l) (Z := Z) (fun i hi => ⟨(h.1 i hi).1, (h.1 i hi).2.1, (h.1 i hi).2.2, fun m _ => Nat.and_zero m⟩) (fun f m hf hv _ hl => h.2 f m hf hv hl) hx]
  constructor
  · intro ⟨q, _, hz, e1⟩
    rw [e0, e0] at e1
    rw [e1]; exact hz
  · intro hz
    exact ⟨x, hx, hz, rfl⟩
end
end
section
/-! ===== counting ===== -/
theorem qa_pig : ∀ (N k : Nat) (f : Nat → Nat), (∀ i, i < k → f i < N) → (∀ i j, i < j → j < k → f i ≠ f j) → k ≤ N := by
  intro N
  induction N with
  | zero =>
    intro k f h _
    rcases Nat.eq_zero_or_pos k with z | z
    · omega
    · exact absurd (h 0 z) (Nat.not_lt_zero _)
  | succ N ih =>
    intro k f h hd
    by_cases z : ∃ i, i < k ∧ f i = N
    · obtain ⟨i, hi, ei⟩ := z
      have := ih (k - 1) (fun j => if j < i then f j else f (j + 1)) (by
        intro j hj
        show (if j < i then f j else f (j + 1)) < N
        split
        · next hlt =>
          have h1 := h j (by omega)
          have h2 := hd j i hlt hi
          omega
        · next hge =>
          have h1 := h (j + 1) (by omega)
          have h2 := hd i (j + 1) (by omega) (by omega)
          omega) (by
        intro a b hab hb
        show (if a < i then f a else f (a + 1)) ≠ (if b < i then f b else f (b + 1))
        split
        · split
          · exact hd a b hab (by omega)
          · exact hd a (b + 1) (by omega) (by omega)
        · split
          · omega
          · exact hd (a + 1) (b + 1) (by omega) (by omega))
      omega
    · have := ih k f (fun i hi => by
        have h1 := h i hi
        have h2 : f i ≠ N := fun e => z ⟨i, hi, e⟩
        omega) hd
      omega
/-- n different numbers below n are all of them -/
theorem qa_surj {N : Nat} {f : Nat → Nat} (h : ∀ i, i < N → f i < N) (hd : ∀ i j, i < j → j < N → f i ≠ f j) {r : Nat} (hr : r < N) : ∃ i, i < N ∧ f i = r := by
  apply Classical.byContradiction
  intro hn
  have hn' : ∀ i, i < N → f i ≠ r := fun i hi e => hn ⟨i, hi, e⟩
  have := qa_pig (N - 1) N (fun i => if f i < r then f i else f i - 1) (by
    intro i hi
    show (if f i < r then f i else f i - 1) < N - 1
    have h1 := h i hi
    have h2 := hn' i hi
    split <;> omega) (by
    intro i j hij hj
    show (if f i < r then f i else f i - 1) ≠ (if f j < r then f j else f j - 1)
    have h1 := hd i j hij hj
    have h2 := hn' i (by omega)
    have h3 := hn' j hj
    split <;> split <;> omega)
  omega
/-! chains: ten of them cover the subsets of five -/
def qa_ch (m : Nat) : Nat := [0, 0, 1, 0, 2, 2, 1, 0, 3, 3, 4, 3, 5, 2, 1, 0, 6, 6, 7, 6, 8, 8, 7, 6, 9, 9, 4, 3, 5, 2, 1, 0].getD m 0
theorem qa_ch_lt : ∀ m, m < 32 → qa_ch m < 10 := by decide +kernel
theorem qa_ch_c : ∀ a, a < 32 → ∀ b, b < 32 → qa_ch a = qa_ch b → a &&& b = a ∨ b &&& a = b := by decide +kernel
theorem qa_sper {k : Nat} {f : Nat → Nat} (h : ∀ i, i < k → f i < 32) (hd : ∀ i j, i < k → j < k → i ≠ j → ¬ f i &&& f j = f i) : k ≤ 10 := by
  refine qa_pig 10 k (fun i => qa_ch (f i)) (fun i hi => qa_ch_lt _ (h i hi)) ?_
  intro i j hij hj e
  rcases qa_ch_c (f i) (h i (by omega)) (f j) (h j hj) e with z | z
  · exact hd i j (by omega) hj (by omega) z
  · exact hd j i hj (by omega) (by omega) z
/-! a count of the numbers below k with a property -/
noncomputable def qa_01 (P : Prop) : Nat := @ite Nat P (Classical.propDecidable P) 1 0
theorem qa_01t {P : Prop} (h : P) : qa_01 P = 1 := by unfold qa_01; rw [if_pos h]
theorem qa_01f {P : Prop} (h : ¬ P) : qa_01 P = 0 := by unfold qa_01; rw [if_neg h]
theorem qa_01c {P Q : Prop} (h : P ↔ Q) : qa_01 P = qa_01 Q := by
  by_cases z : P
  · rw [qa_01t z, qa_01t (h.mp z)]
  · rw [qa_01f z, qa_01f fun q => z (h.mpr q)]
noncomputable def qa_cn (P : Nat → Prop) : Nat → Nat
  | 0 => 0
  | k + 1 => qa_cn P k + qa_01 (P k)
theorem qa_cn_t {P : Nat → Prop} {k : Nat} (h : P k) : qa_cn P (k + 1) = qa_cn P k + 1 := by
  show qa_cn P k + qa_01 (P k) = _
  rw [qa_01t h]
theorem qa_cn_f {P : Nat → Prop} {k : Nat} (h : ¬ P k) : qa_cn P (k + 1) = qa_cn P k := by
  show qa_cn P k + qa_01 (P k) = _
  rw [qa_01f h]
  rfl
theorem qa_cn_cg {P Q : Nat → Prop} : ∀ {k : Nat}, (∀ i, i < k → (P i ↔ Q i)) → qa_cn P k = qa_cn Q k
  | 0, _ => rfl
  | k + 1, h => by
    show qa_cn P k + qa_01 (P k) = qa_cn Q k + qa_01 (Q k)
    rw [qa_cn_cg fun i hi => h i (by omega), qa_01c (h k (by omega))]
theorem qa_cn_le {P : Nat → Prop} : ∀ k, qa_cn P k ≤ k
  | 0 => Nat.le_refl 0
  | k + 1 => by
    have := qa_cn_le (P := P) k
    by_cases h : P k
    · rw [qa_cn_t h]; omega
    · rw [qa_cn_f h]; omega
theorem qa_cn_mono {P : Nat → Prop} {a : Nat} : ∀ d, qa_cn P a ≤ qa_cn P (a + d)
  | 0 => Nat.le_refl _
  | d + 1 => by
    have := qa_cn_mono (P := P) (a := a) d
    show _ ≤ qa_cn P (a + d) + qa_01 (P (a + d))
    omega
theorem qa_cn_lt {P : Nat → Prop} {a b : Nat} (h : P a) (hab : a < b) : qa_cn P a < qa_cn P b := by
  have h1 := qa_cn_mono (P := P) (a := a + 1) (b - (a + 1))
  rw [show a + 1 + (b - (a + 1)) = b by omega, qa_cn_t h] at h1
  omega
theorem qa_cn_lt' {P : Nat → Prop} {a b : Nat} (h : ¬ P a) (hab : a < b) : qa_cn P b < b := by
  have key : ∀ d, qa_cn P (a + 1 + d) < a + 1 + d := by
    intro d
    induction d with
    | zero =>
      show qa_cn P (a + 1) < a + 1
      rw [qa_cn_f h]
      have := qa_cn_le (P := P) a
      omega
    | succ d ih =>
      show qa_cn P (a + 1 + d) + qa_01 (P (a + 1 + d)) < a + 1 + d + 1
      by_cases z : P (a + 1 + d)
      · rw [qa_01t z]; omega
      · rw [qa_01f z]; omega
  have := key (b - (a + 1))
  rw [show a + 1 + (b - (a + 1)) = b by omega] at this
  exact this
theorem qa_cn_sub {P Q : Nat → Prop} {a : Nat} (hq : Q a) (hp : ¬ P a) (h : ∀ i, P i → Q i) : ∀ {b : Nat}, a < b → qa_cn P b < qa_cn Q b := by
  have le : ∀ b, qa_cn P b ≤ qa_cn Q b := by
    intro b
    induction b with
    | zero => exact Nat.le_refl _
    | succ b ih =>
      by_cases z : P b
      · rw [qa_cn_t z, qa_cn_t (h b z)]; omega
      · rw [qa_cn_f z]
        have := qa_cn_mono (P := Q) (a := b) 1
        omega
  intro b
  induction b with
  | zero => intro hab; omega
  | succ b ih =>
    intro hab
    by_cases e : a = b
    · subst e
      rw [qa_cn_f hp, qa_cn_t hq]
      have := le a
      omega
    · have := ih (by omega)
      by_cases z : P b
      · rw [qa_cn_t z, qa_cn_t (h b z)]; omega
      · rw [qa_cn_f z]
        have := qa_cn_mono (P := Q) (a := b) 1
        omega
theorem qa_cn_ix {P : Nat → Prop} : ∀ {k i : Nat}, i < qa_cn P k → ∃ r, r < k ∧ P r ∧ qa_cn P r = i
  | 0, i, h => absurd h (Nat.not_lt_zero i)
  | k + 1, i, h => by
    by_cases z : P k
    · rw [qa_cn_t z] at h
      by_cases e : i = qa_cn P k
      · exact ⟨k, by omega, z, e.symm⟩
      · obtain ⟨r, h1, h2, h3⟩ := qa_cn_ix (P := P) (k := k) (i := i) (by omega)
        exact ⟨r, by omega, h2, h3⟩
    · rw [qa_cn_f z] at h
      obtain ⟨r, h1, h2, h3⟩ := qa_cn_ix h
      exact ⟨r, by omega, h2, h3⟩
/-! ===== ranks ===== -/
noncomputable def qa_rk (w : Nat → Nat) (s m : Nat) : Nat := qa_cn (fun d => w d < w m) s
theorem qa_rk_lt (w : Nat → Nat) {s m : Nat} (h : m < s) : qa_rk w s m < s := qa_cn_lt' (P := fun d => w d < w m) (Nat.lt_irrefl (w m)) h
theorem qa_rk_mono {w : Nat → Nat} {s a b : Nat} (ha : a < s) (h : w a < w b) : qa_rk w s a < qa_rk w s b :=
  qa_cn_sub (P := fun d => w d < w a) (Q := fun d => w d < w b) h (Nat.lt_irrefl (w a)) (fun i (hi : w i < w a) => by show w i < w b; omega) ha
theorem qa_rk_inj {w : Nat → Nat} (hw : qa_wo w) {s a b : Nat} (hs : s ≤ 32) (ha : a < s) (hb : b < s) (h : qa_rk w s a = qa_rk w s b) : a = b := by
  apply hw.1 a b (by omega) (by omega)
  rcases Nat.lt_trichotomy (w a) (w b) with z | z | z
  · have := qa_rk_mono ha z; omega
  · exact z
  · have := qa_rk_mono hb z; omega
theorem qa_rk_sj {w : Nat → Nat} (hw : qa_wo w) {s r : Nat} (hs : s ≤ 32) (hr : r < s) : ∃ m, m < s ∧ qa_rk w s m = r :=
  qa_surj (f := qa_rk w s) (fun _ hi => qa_rk_lt w hi) (fun i j hij hj e => by
    have := qa_rk_inj hw hs (by omega) hj e
    omega) hr
/-- the monomial of rank r -/
noncomputable def qa_od (w : Nat → Nat) (s r : Nat) : Nat := @dite Nat (∃ m, m < s ∧ qa_rk w s m = r) (Classical.propDecidable _) (fun h => h.choose) (fun _ => 0)
theorem qa_od_s {w : Nat → Nat} (hw : qa_wo w) {s r : Nat} (hs : s ≤ 32) (hr : r < s) : qa_od w s r < s ∧ qa_rk w s (qa_od w s r) = r := by
  have h := qa_rk_sj hw hs hr
  unfold qa_od
  rw [dif_pos h]
  exact h.choose_spec
theorem qa_od_rk {w : Nat → Nat} (hw : qa_wo w) {s m : Nat} (hs : s ≤ 32) (hm : m < s) : qa_od w s (qa_rk w s m) = m := by
  obtain ⟨h1, h2⟩ := qa_od_s hw hs (qa_rk_lt w hm)
  exact qa_rk_inj hw hs h1 hm h2
theorem qa_od_lt {w : Nat → Nat} (hw : qa_wo w) {s a b : Nat} (hs : s ≤ 32) (hab : a < b) (hb : b < s) : w (qa_od w s a) < w (qa_od w s b) := by
  obtain ⟨h1, h2⟩ := qa_od_s hw hs (show a < s by omega)
  obtain ⟨h3, h4⟩ := qa_od_s hw hs hb
  rcases Nat.lt_trichotomy (w (qa_od w s a)) (w (qa_od w s b)) with z | z | z
  · exact z
  · have := hw.1 _ _ (by omega) (by omega) z
    rw [this] at h2
    omega
  · have := qa_rk_mono h3 z
    omega
/-- the array a holds the monomials in ascending order -/
def qa_As (w : Nat → Nat) (s : Nat) (a : Nat → Int32) : Prop := ∀ m, m < s → a (qa_rk w s m) = nI m
theorem qa_As_r {w : Nat → Nat} (hw : qa_wo w) {s : Nat} (hs : s ≤ 32) {a : Nat → Int32} (h : qa_As w s a) {r : Nat} (hr : r < s) : a r = nI (qa_od w s r) := by
  obtain ⟨h1, h2⟩ := qa_od_s hw hs hr
  have := h _ h1
  rw [h2] at this
  exact this
/-! ===== the reduced basis ===== -/
def qa_RB (w : Nat → Nat) (s : Nat) (Z : Nat → Prop) (b : Nat) (g : Nat → Int32) : Prop :=
  b = qa_cn (fun r => qa_mn w s Z (qa_od w s r)) s ∧
  ∀ r, r < s → qa_mn w s Z (qa_od w s r) → qa_nf w s Z (qa_mo (qa_od w s r)) (qa_mo (qa_od w s r) ^^^ g (qa_cn (fun r => qa_mn w s Z (qa_od w s r)) r))
/-- the leads that belong to it -/
def qa_RL (w : Nat → Nat) (s : Nat) (Z : Nat → Prop) (l : Nat → Nat) : Prop :=
  ∀ r, r < s → qa_mn w s Z (qa_od w s r) → l (qa_cn (fun r => qa_mn w s Z (qa_od w s r)) r) = qa_od w s r
section
variable {w : Nat → Nat} {s b b' : Nat} {g g' : Nat → Int32} {l : Nat → Nat} {Z : Nat → Prop}
theorem qa_RB_un (h : qa_RB w s Z b g) (h' : qa_RB w s Z b' g') : b = b' ∧ ∀ i, i < b → g i = g' i := by
  refine ⟨by rw [h.1, h'.1], ?_⟩
  intro i hi
  rw [h.1] at hi
  obtain ⟨r, h1, h2, h3⟩ := qa_cn_ix hi
  have e1 := h.2 r h1 h2
  have e2 := h'.2 r h1 h2
  rw [h3] at e1 e2
  have := qa_nf_un e1 e2
  have e3 := congrArg (fun z => qa_mo (qa_od w s r) ^^^ z) this
  simp only [qa_xk'] at e3
  exact e3
theorem qa_RB_G (hw : qa_wo w) (hs : qa_sz s) (h : qa_RB w s Z b g) (hl : qa_RL w s Z l) : qa_G w s b g l Z := by
  constructor
  · intro i hi
    rw [h.1] at hi
    obtain ⟨r, h1, h2, h3⟩ := qa_cn_ix hi
    have e1 := h.2 r h1 h2
    have e2 := hl r h1 h2
    rw [h3] at e1 e2
    have e3 := qa_nf_ld hw hs h2.1 h2.2.1 e1
    rw [qa_xk'] at e3
    have e4 := e1.2.1
    rw [qa_xk'] at e4
    rw [e2]
    exact ⟨e3.2, e3.1, e4⟩
  · intro f m hf hv hm
    have ms := hf m hm.1
    obtain ⟨d, h1, h2⟩ := qa_mn_ex (w := w) (Z := Z) m ms (fun hd => hd f hf hm hv)
    have e0 := qa_od_rk hw hs.2.1 h1.1
    have hr := qa_rk_lt w h1.1
    have h3 : qa_mn w s Z (qa_od w s (qa_rk w s d)) := by rw [e0]; exact h1
    have e1 := hl _ hr h3
    refine ⟨qa_cn (fun r => qa_mn w s Z (qa_od w s r)) (qa_rk w s d), ?_, ?_⟩
    · rw [h.1]
      exact qa_cn_lt (P := fun r => qa_mn w s Z (qa_od w s r)) h3 hr
    · rw [e1, e0]
      exact h2
theorem qa_mn_anti {a c : Nat} (ha : qa_mn w s Z a) (hc : qa_mn w s Z c) (hne : ¬ a = c) : ¬ a &&& c = a :=
  fun hd => ha.2.1 (hc.2.2 a ha.1 hne hd)
/-- at most ten least leads -/
theorem qa_cn10 (hw : qa_wo w) (hs : qa_sz s) : qa_cn (fun r => qa_mn w s Z (qa_od w s r)) s ≤ 10 := by
  have hex : ∀ i, i < qa_cn (fun r => qa_mn w s Z (qa_od w s r)) s → ∃ m, qa_mn w s Z m ∧ ∃ r, r < s ∧ m = qa_od w s r ∧ qa_cn (fun r => qa_mn w s Z (qa_od w s r)) r = i := by
    intro i hi
    obtain ⟨r, h1, h2, h3⟩ := qa_cn_ix hi
    exact ⟨_, h2, r, h1, rfl, h3⟩
  let f : Nat → Nat := fun i => @dite Nat (i < qa_cn (fun r => qa_mn w s Z (qa_od w s r)) s) (Classical.propDecidable _) (fun h => (hex i h).choose) (fun _ => 0)
  have hf : ∀ i, (hi : i < qa_cn (fun r => qa_mn w s Z (qa_od w s r)) s) → f i = (hex i hi).choose := by
    intro i hi
    show @dite Nat _ (Classical.propDecidable _) _ _ = _
    rw [dif_pos hi]
  refine qa_sper (f := f) ?_ ?_
  · intro i hi
    rw [hf i hi]
    have := (hex i hi).choose_spec.1.1
    have := hs.2.1
    omega
  · intro i j hi hj hij
    rw [hf i hi, hf j hj]
    obtain ⟨a1, r, a2, a3, a4⟩ := (hex i hi).choose_spec
    obtain ⟨b1, q, b2, b3, b4⟩ := (hex j hj).choose_spec
    refine qa_mn_anti a1 b1 ?_
    intro e
    rw [a3, b3] at e
    have h1 := (qa_od_s hw hs.2.1 a2).2
    have h2 := (qa_od_s hw hs.2.1 b2).2
    rw [e, h2] at h1
    rw [h1, a4] at b4
    exact hij b4
end
end
section
/-! ===== the count of bits by halves ===== -/
def qc_pc (x : Int32) : Nat → Nat
  | 0 => 0
  | k + 1 => qc_pc x k + (if bt x k then 1 else 0)
def qc_dg (b : Nat) : Nat → (Nat → Nat) → Nat
  | 0, _ => 0
  | k + 1, d => d 0 + 2 ^ b * qc_dg b k (fun i => d (i + 1))
theorem qc_and2 {b x u : Nat} (y v : Nat) (hx : x < 2 ^ b) (hu : u < 2 ^ b) : (x + 2 ^ b * y) &&& (u + 2 ^ b * v) = (x &&& u) + 2 ^ b * (y &&& v) := by
  apply Nat.eq_of_testBit_eq
  intro j
  rw [Nat.testBit_and, Nat.add_comm x, Nat.add_comm u, Nat.add_comm (x &&& u), Nat.testBit_two_pow_mul_add _ hx, Nat.testBit_two_pow_mul_add _ hu, Nat.testBit_two_pow_mul_add _ (Nat.lt_of_le_of_lt Nat.and_le_left hx)]
  by_cases h : j < b
  · rw [if_pos h, if_pos h, if_pos h, Nat.testBit_and]
  · rw [if_neg h, if_neg h, if_neg h, Nat.testBit_and]
theorem qc_cg {b : Nat} : ∀ {k : Nat} {d e : Nat → Nat}, (∀ i, i < k → d i = e i) → qc_dg b k d = qc_dg b k e
  | 0, _, _, _ => rfl
  | k + 1, d, e, h => by
    show d 0 + 2 ^ b * qc_dg b k (fun i => d (i + 1)) = e 0 + 2 ^ b * qc_dg b k (fun i => e (i + 1))
    rw [h 0 (by omega), qc_cg (b := b) (k := k) (d := fun i => d (i + 1)) (e := fun i => e (i + 1)) (fun i hi => h (i + 1) (by omega))]
theorem qc_add {b : Nat} : ∀ (k : Nat) (d e : Nat → Nat), qc_dg b k (fun i => d i + e i) = qc_dg b k d + qc_dg b k e
  | 0, _, _ => rfl
  | k + 1, d, e => by
    show (d 0 + e 0) + 2 ^ b * qc_dg b k (fun i => d (i + 1) + e (i + 1)) = (d 0 + 2 ^ b * qc_dg b k (fun i => d (i + 1))) + (e 0 + 2 ^ b * qc_dg b k (fun i => e (i + 1)))
    rw [qc_add k (fun i => d (i + 1)) (fun i => e (i + 1)), Nat.mul_add]
    omega
theorem qc_and {b : Nat} : ∀ (k : Nat) (d e : Nat → Nat), (∀ i, i < k → d i < 2 ^ b) → (∀ i, i < k → e i < 2 ^ b) → qc_dg b k d &&& qc_dg b k e = qc_dg b k (fun i => d i &&& e i)
  | 0, _, _, _, _ => by show (0 &&& 0 : Nat) = 0; decide
  | k + 1, d, e, hd, he => by
    show (d 0 + 2 ^ b * qc_dg b k (fun i => d (i + 1))) &&& (e 0 + 2 ^ b * qc_dg b k (fun i => e (i + 1))) = (d 0 &&& e 0) + 2 ^ b * qc_dg b k (fun i => d (i + 1) &&& e (i + 1))
    rw [qc_and2 _ _ (hd 0 (by omega)) (he 0 (by omega)), qc_and k (fun i => d (i + 1)) (fun i => e (i + 1)) (fun i hi => hd (i + 1) (by omega)) (fun i hi => he (i + 1) (by omega))]
theorem qc_div {b k : Nat} {d : Nat → Nat} (h : d 0 < 2 ^ b) : qc_dg b (k + 1) d / 2 ^ b = qc_dg b k (fun i => d (i + 1)) := by
  show (d 0 + 2 ^ b * _) / 2 ^ b = _
  rw [Nat.add_mul_div_left _ _ (Nat.two_pow_pos b), Nat.div_eq_of_lt h, Nat.zero_add]
theorem qc_z {b : Nat} : ∀ (k : Nat) (d : Nat → Nat), d k = 0 → qc_dg b (k + 1) d = qc_dg b k d
  | 0, d, h => by
    show d 0 + 2 ^ b * 0 = 0
    rw [h]; rfl
  | k + 1, d, h => by
    show d 0 + 2 ^ b * qc_dg b (k + 1) (fun i => d (i + 1)) = d 0 + 2 ^ b * qc_dg b k (fun i => d (i + 1))
    rw [qc_z k (fun i => d (i + 1)) h]
theorem qc_pair {b : Nat} : ∀ (k : Nat) (d : Nat → Nat), qc_dg b (2 * k) d = qc_dg (2 * b) k (fun i => d (2 * i) + 2 ^ b * d (2 * i + 1))
  | 0, _ => rfl
  | k + 1, d => by
    have ih := qc_pair (b := b) k (fun i => d (i + 1 + 1))
    show d 0 + 2 ^ b * (d 1 + 2 ^ b * qc_dg b (2 * k) (fun i => d (i + 1 + 1))) = (d 0 + 2 ^ b * d 1) + 2 ^ (2 * b) * qc_dg (2 * b) k (fun i => d (2 * i + 1 + 1) + 2 ^ b * d (2 * i + 1 + 1 + 1))
    rw [ih, Nat.mul_add, ← Nat.mul_assoc, ← Nat.pow_add, show b + b = 2 * b by omega, Nat.add_assoc]
theorem qc_bits : ∀ (k N : Nat), N < 2 ^ k → N = qc_dg 1 k (fun i => if N.testBit i then 1 else 0)
  | 0, N, h => by
    have : N = 0 := by
      rw [Nat.pow_zero] at h; omega
    rw [this]; rfl
  | k + 1, N, h => by
    have ih := qc_bits k (N / 2) (by rw [Nat.pow_succ] at h; omega)
    show N = (if N.testBit 0 then 1 else 0) + 2 ^ 1 * qc_dg 1 k (fun i => if N.testBit (i + 1) then 1 else 0)
    have e : qc_dg 1 k (fun i => if N.testBit (i + 1) then 1 else 0) = N / 2 := by
      refine Eq.trans (qc_cg fun i _ => ?_) ih.symm
      show (if N.testBit (i + 1) then 1 else 0) = (if (N / 2).testBit i then 1 else 0)
      rw [Nat.testBit_add_one]
    rw [e, Nat.testBit_zero]
    by_cases z : N % 2 = 1
    · rw [if_pos (decide_eq_true z)]; omega
    · rw [if_neg (by rw [decide_eq_false z]; decide)]; omega
theorem qc_m5 : (1431655765 : Nat) = qc_dg 1 32 (fun i => 1 - i % 2) := by decide +kernel
theorem qc_m3 : (858993459 : Nat) = qc_dg 2 16 (fun i => 3 - 3 * (i % 2)) := by decide +kernel
theorem qc_mf : (252645135 : Nat) = qc_dg 4 8 (fun i => 15 - 15 * (i % 2)) := by decide +kernel
theorem qc_a1 : ∀ a, a < 2 → a &&& 1 = a ∧ a &&& 0 = 0 := by decide
theorem qc_a3 : ∀ a, a < 4 → a &&& 3 = a ∧ a &&& 0 = 0 := by decide
theorem qc_a15 : ∀ a, a < 16 → a &&& 15 = a ∧ a &&& 0 = 0 := by decide
/-- the three steps over digits -/
theorem qc_s1 {β : Nat → Nat} (hβ : ∀ i, β i < 2) (hz : β 32 = 0) {N : Nat} (hN : N = qc_dg 1 32 β) :
    (N / 2 &&& 1431655765) ≤ N ∧ N - (N / 2 &&& 1431655765) = qc_dg 2 16 (fun i => β (2 * i) + β (2 * i + 1)) := by
  have e1 : N / 2 = qc_dg 1 32 (fun i => β (i + 1)) := by
    rw [hN, qc_z 31 (fun i => β (i + 1)) hz]
    exact qc_div (b := 1) (k := 31) (hβ 0)
  have e2 : (N / 2 &&& 1431655765) = qc_dg 2 16 (fun i => β (2 * i + 1)) := by
    rw [e1, qc_m5, qc_and 32 _ _ (fun i _ => hβ (i + 1)) (fun i _ => by show 1 - i % 2 < 2 ^ 1; omega)]
    refine Eq.trans (qc_pair (b := 1) 16 _) (qc_cg fun i _ => ?_)
    show (β (2 * i + 1) &&& (1 - 2 * i % 2)) + 2 ^ 1 * (β (2 * i + 1 + 1) &&& (1 - (2 * i + 1) % 2)) = β (2 * i + 1)
    rw [show 1 - 2 * i % 2 = 1 by omega, show 1 - (2 * i + 1) % 2 = 0 by omega, (qc_a1 _ (hβ _)).1, (qc_a1 _ (hβ _)).2]
    omega
  have e3 : N = qc_dg 2 16 (fun i => β (2 * i) + β (2 * i + 1)) + qc_dg 2 16 (fun i => β (2 * i + 1)) := by
    rw [← qc_add, hN]
    refine Eq.trans (qc_pair (b := 1) 16 β) (qc_cg fun i _ => ?_)
    show β (2 * i) + 2 ^ 1 * β (2 * i + 1) = β (2 * i) + β (2 * i + 1) + β (2 * i + 1)
    omega
  rw [e2]
  omega
theorem qc_s2 {γ : Nat → Nat} (hγ : ∀ i, γ i < 4) (hz : γ 16 = 0) {N : Nat} (hN : N = qc_dg 2 16 γ) :
    (N &&& 858993459) + (N / 4 &&& 858993459) = qc_dg 4 8 (fun i => γ (2 * i) + γ (2 * i + 1)) := by
  have e1 : N / 4 = qc_dg 2 16 (fun i => γ (i + 1)) := by
    rw [hN, qc_z 15 (fun i => γ (i + 1)) hz]
    exact qc_div (b := 2) (k := 15) (hγ 0)
  have e2 : (N / 4 &&& 858993459) = qc_dg 4 8 (fun i => γ (2 * i + 1)) := by
    rw [e1, qc_m3, qc_and 16 _ _ (fun i _ => hγ (i + 1)) (fun i _ => by show 3 - 3 * (i % 2) < 2 ^ 2; omega)]
    refine Eq.trans (qc_pair (b := 2) 8 _) (qc_cg fun i _ => ?_)
    show (γ (2 * i + 1) &&& (3 - 3 * (2 * i % 2))) + 2 ^ 2 * (γ (2 * i + 1 + 1) &&& (3 - 3 * ((2 * i + 1) % 2))) = γ (2 * i + 1)
    rw [show 3 - 3 * (2 * i % 2) = 3 by omega, show 3 - 3 * ((2 * i + 1) % 2) = 0 by omega, (qc_a3 _ (hγ _)).1, (qc_a3 _ (hγ _)).2]
    omega
  have e3 : (N &&& 858993459) = qc_dg 4 8 (fun i => γ (2 * i)) := by
    rw [hN, qc_m3, qc_and 16 _ _ (fun i _ => hγ i) (fun i _ => by show 3 - 3 * (i % 2) < 2 ^ 2; omega)]
    refine Eq.trans (qc_pair (b := 2) 8 _) (qc_cg fun i _ => ?_)
    show (γ (2 * i) &&& (3 - 3 * (2 * i % 2))) + 2 ^ 2 * (γ (2 * i + 1) &&& (3 - 3 * ((2 * i + 1) % 2))) = γ (2 * i)
    rw [show 3 - 3 * (2 * i % 2) = 3 by omega, show 3 - 3 * ((2 * i + 1) % 2) = 0 by omega, (qc_a3 _ (hγ _)).1, (qc_a3 _ (hγ _)).2]
    omega
  rw [e2, e3, ← qc_add]
theorem qc_s3 {δ : Nat → Nat} (hδ : ∀ i, δ i < 8) (hz : δ 8 = 0) {N : Nat} (hN : N = qc_dg 4 8 δ) :
    (N + N / 16) &&& 252645135 = qc_dg 8 4 (fun i => δ (2 * i) + δ (2 * i + 1)) := by
  have e1 : N / 16 = qc_dg 4 8 (fun i => δ (i + 1)) := by
    rw [hN, qc_z 7 (fun i => δ (i + 1)) hz]
    exact qc_div (b := 4) (k := 7) (Nat.lt_trans (hδ 0) (by decide))
  have h16 : ∀ i, δ i + δ (i + 1) < 16 := fun i => by
    have := hδ i
    have := hδ (i + 1)
    omega
  rw [e1, hN, ← qc_add, qc_mf, qc_and 8 _ _ (fun i _ => h16 i) (fun i _ => by show 15 - 15 * (i % 2) < 2 ^ 4; omega)]
  refine Eq.trans (qc_pair (b := 4) 4 _) (qc_cg fun i _ => ?_)
  show ((δ (2 * i) + δ (2 * i + 1)) &&& (15 - 15 * (2 * i % 2))) + 2 ^ 4 * ((δ (2 * i + 1) + δ (2 * i + 1 + 1)) &&& (15 - 15 * ((2 * i + 1) % 2))) = δ (2 * i) + δ (2 * i + 1)
  rw [show 15 - 15 * (2 * i % 2) = 15 by omega, show 15 - 15 * ((2 * i + 1) % 2) = 0 by omega, (qc_a15 _ (h16 _)).1, (qc_a15 _ (h16 _)).2]
  omega
theorem qc_s4 {ε : Nat → Nat} (hε : ∀ i, ε i < 16) {N : Nat} (hN : N = qc_dg 8 4 ε) : N * 16843009 % 4294967296 / 16777216 = ε 0 + ε 1 + ε 2 + ε 3 := by
  have e1 : N = ε 0 + 256 * (ε 1 + 256 * (ε 2 + 256 * (ε 3 + 256 * 0))) := hN
  have h0 := hε 0
  have h1 := hε 1
  have h2 := hε 2
  have h3 := hε 3
  have p1 : N * 16843009 = 4294967296 * ((ε 1 + ε 2 + ε 3) + 256 * (ε 2 + ε 3) + 65536 * ε 3) + ((ε 0 + 256 * (ε 0 + ε 1) + 65536 * (ε 0 + ε 1 + ε 2)) + 16777216 * (ε 0 + ε 1 + ε 2 + ε 3)) := by
    rw [e1]
    omega
  rw [p1, Nat.mul_add_mod, Nat.mod_eq_of_lt (by omega), Nat.add_mul_div_left _ _ (by decide), Nat.div_eq_of_lt (by omega), Nat.zero_add]
theorem qc_lt {N : Nat} {ε : Nat → Nat} (hε : ∀ i, ε i < 16) (hN : N = qc_dg 8 4 ε) : N < 4294967296 := by
  have e1 : N = ε 0 + 256 * (ε 1 + 256 * (ε 2 + 256 * (ε 3 + 256 * 0))) := hN
  have h0 := hε 0
  have h1 := hε 1
  have h2 := hε 2
  have h3 := hε 3
  omega
theorem qc_lt4 {b : Nat} : ∀ (k : Nat) (d : Nat → Nat), (∀ i, d i < 2 ^ b) → qc_dg b k d < 2 ^ (b * k)
  | 0, _, _ => by show 0 < 2 ^ 0; decide
  | k + 1, d, h => by
    have ih := qc_lt4 (b := b) k (fun i => d (i + 1)) (fun i => h (i + 1))
    show d 0 + 2 ^ b * qc_dg b k (fun i => d (i + 1)) < 2 ^ (b * k + b)
    have h0 := h 0
    rw [Nat.pow_add, Nat.mul_comm (2 ^ (b * k))]
    have h1 : 2 ^ b * (qc_dg b k (fun i => d (i + 1)) + 1) ≤ 2 ^ b * 2 ^ (b * k) := Nat.mul_le_mul_left _ ih
    rw [Nat.mul_add] at h1
    omega
def qc_tn (x : Int32) : Nat := x.toBitVec.toNat
theorem qc_tn_lt (x : Int32) : qc_tn x < 4294967296 := x.toBitVec.isLt
theorem qc_tn_and (x y : Int32) : qc_tn (x &&& y) = qc_tn x &&& qc_tn y := by
  unfold qc_tn
  rw [Int32.toBitVec_and, BitVec.toNat_and]
theorem qc_tn_add (x y : Int32) (h : qc_tn x + qc_tn y < 4294967296) : qc_tn (x + y) = qc_tn x + qc_tn y := by
  unfold qc_tn at *
  rw [Int32.toBitVec_add, BitVec.toNat_add]
  exact Nat.mod_eq_of_lt h
theorem qc_tn_sub (x y : Int32) (h : qc_tn y ≤ qc_tn x) : qc_tn (x - y) = qc_tn x - qc_tn y := by
  have h1 := qc_tn_lt x
  unfold qc_tn at *
  rw [Int32.toBitVec_sub, BitVec.toNat_sub]
  omega
theorem qc_tn_mul (x y : Int32) : qc_tn (x * y) = qc_tn x * qc_tn y % 4294967296 := by
  unfold qc_tn
  rw [Int32.toBitVec_mul, BitVec.toNat_mul]
theorem qc_tn_inj {x y : Int32} (h : qc_tn x = qc_tn y) : x = y := Int32.toBitVec_inj.mp (BitVec.eq_of_toNat_eq h)
theorem qc_tn_sh (x s : Int32) (k : Nat) (hs : ((s.toUInt32 &&& Int32.toUInt32 31).toBitVec % 32).toNat = k) : qc_tn ((x.toUInt32 >>> (s.toUInt32 &&& Int32.toUInt32 31)).toInt32) = qc_tn x / 2 ^ k := pk_ushr x s k hs
theorem qc_swar (x v1 v2 v3 : Int32) (e1 : v1 = x - (((x.toUInt32 >>> ((1 : Int32).toUInt32 &&& Int32.toUInt32 31)).toInt32) &&& 1431655765))
    (e2 : v2 = (v1 &&& 858993459) + (((v1.toUInt32 >>> ((2 : Int32).toUInt32 &&& Int32.toUInt32 31)).toInt32) &&& 858993459))
    (e3 : v3 = (v2 + ((v2.toUInt32 >>> ((4 : Int32).toUInt32 &&& Int32.toUInt32 31)).toInt32)) &&& 252645135) :
    (((v3 * 16843009).toUInt32 >>> ((24 : Int32).toUInt32 &&& Int32.toUInt32 31)).toInt32) = nI (qc_pc x 32) := by
  have hβ : ∀ i, (fun i => if bt x i then 1 else 0) i < 2 := by
    intro i
    show (if bt x i then 1 else 0) < 2
    split <;> omega
  have hN : qc_tn x = qc_dg 1 32 (fun i => if bt x i then 1 else 0) := qc_bits 32 (qc_tn x) (qc_tn_lt x)
  have hb : ∀ i, 32 ≤ i → (if bt x i then 1 else 0) = 0 := fun i hi => by rw [b_big hi]; rfl
  generalize hβe : (fun i => if bt x i then 1 else 0) = β at hβ hN
  have hb' : ∀ i, 32 ≤ i → β i = 0 := fun i hi => by rw [← hβe]; exact hb i hi
  obtain ⟨l1, s1⟩ := qc_s1 hβ (hb' 32 (Nat.le_refl _)) hN
  have t1 : qc_tn v1 = qc_dg 2 16 (fun i => β (2 * i) + β (2 * i + 1)) := by
    rw [← s1, e1, qc_tn_sub _ _ ?_, qc_tn_and, qc_tn_sh x 1 1 (by decide)]
    · rfl
    · rw [qc_tn_and, qc_tn_sh x 1 1 (by decide)]
      exact l1
  have g4 : ∀ i, (fun i => β (2 * i) + β (2 * i + 1)) i < 4 := fun i => by
    show β (2 * i) + β (2 * i + 1) < 4
    have := hβ (2 * i)
    have := hβ (2 * i + 1)
    omega
  have s2 := qc_s2 g4 (by show β (2 * 16) + β (2 * 16 + 1) = 0; rw [hb' _ (by omega), hb' _ (by omega)]) t1
  have d8 : ∀ i, (β (2 * (2 * i)) + β (2 * (2 * i) + 1)) + (β (2 * (2 * i + 1)) + β (2 * (2 * i + 1) + 1)) < 8 := fun i => by
    have := hβ (2 * (2 * i))
    have := hβ (2 * (2 * i) + 1)
    have := hβ (2 * (2 * i + 1))
    have := hβ (2 * (2 * i + 1) + 1)
    omega
  have lt2 := qc_lt4 (b := 4) 8 (fun i => (β (2 * (2 * i)) + β (2 * (2 * i) + 1)) + (β (2 * (2 * i + 1)) + β (2 * (2 * i + 1) + 1))) (fun i => Nat.lt_trans (d8 i) (by decide))
  have t2 : qc_tn v2 = qc_dg 4 8 (fun i => (β (2 * (2 * i)) + β (2 * (2 * i) + 1)) + (β (2 * (2 * i + 1)) + β (2 * (2 * i + 1) + 1))) := by
    have e4 : qc_tn (v1 &&& 858993459) + qc_tn (((v1.toUInt32 >>> ((2 : Int32).toUInt32 &&& Int32.toUInt32 31)).toInt32) &&& 858993459) = qc_dg 4 8 (fun i => (β (2 * (2 * i)) + β (2 * (2 * i) + 1)) + (β (2 * (2 * i + 1)) + β (2 * (2 * i + 1) + 1))) := by
      rw [qc_tn_and, qc_tn_and, qc_tn_sh v1 2 2 (by decide)]
      exact s2
    rw [e2, qc_tn_add _ _ (by rw [e4]; exact lt2), e4]
  have s3 := qc_s3 d8 (by
    show (β (2 * (2 * 8)) + β (2 * (2 * 8) + 1)) + (β (2 * (2 * 8 + 1)) + β (2 * (2 * 8 + 1) + 1)) = 0
    rw [hb' _ (by omega), hb' _ (by omega), hb' _ (by omega), hb' _ (by omega)]) t2
  have lt3 : qc_tn v2 + qc_tn v2 / 16 < 4294967296 := by
    have e5 : qc_tn v2 = (β 0 + β 1 + (β 2 + β 3)) + 16 * ((β 4 + β 5 + (β 6 + β 7)) + 16 * ((β 8 + β 9 + (β 10 + β 11)) + 16 * ((β 12 + β 13 + (β 14 + β 15)) + 16 * ((β 16 + β 17 + (β 18 + β 19)) + 16 * ((β 20 + β 21 + (β 22 + β 23)) + 16 * ((β 24 + β 25 + (β 26 + β 27)) + 16 * ((β 28 + β 29 + (β 30 + β 31)) + 16 * 0))))))) := t2
    have q0 : β 0 + β 1 + (β 2 + β 3) < 8 := d8 0
    have q1 : β 4 + β 5 + (β 6 + β 7) < 8 := d8 1
    have q2 : β 8 + β 9 + (β 10 + β 11) < 8 := d8 2
    have q3 : β 12 + β 13 + (β 14 + β 15) < 8 := d8 3
    have q4 : β 16 + β 17 + (β 18 + β 19) < 8 := d8 4
    have q5 : β 20 + β 21 + (β 22 + β 23) < 8 := d8 5
    have q6 : β 24 + β 25 + (β 26 + β 27) < 8 := d8 6
    have q7 : β 28 + β 29 + (β 30 + β 31) < 8 := d8 7
    omega
  have t3 : qc_tn v3 = qc_dg 8 4 (fun i => ((β (2 * (2 * (2 * i))) + β (2 * (2 * (2 * i)) + 1)) + (β (2 * (2 * (2 * i) + 1)) + β (2 * (2 * (2 * i) + 1) + 1))) + ((β (2 * (2 * (2 * i + 1))) + β (2 * (2 * (2 * i + 1)) + 1)) + (β (2 * (2 * (2 * i + 1) + 1)) + β (2 * (2 * (2 * i + 1) + 1) + 1)))) := by
    rw [e3, qc_tn_and, qc_tn_add _ _ (by rw [qc_tn_sh v2 4 4 (by decide)]; exact lt3), qc_tn_sh v2 4 4 (by decide)]
    exact s3
  have s4 := qc_s4 (fun i => by
    have a := d8 (2 * i)
    have b := d8 (2 * i + 1)
    show ((β (2 * (2 * (2 * i))) + β (2 * (2 * (2 * i)) + 1)) + (β (2 * (2 * (2 * i) + 1)) + β (2 * (2 * (2 * i) + 1) + 1))) + ((β (2 * (2 * (2 * i + 1))) + β (2 * (2 * (2 * i + 1)) + 1)) + (β (2 * (2 * (2 * i + 1) + 1)) + β (2 * (2 * (2 * i + 1) + 1) + 1))) < 16
    omega) t3
  apply qc_tn_inj
  rw [qc_tn_sh _ 24 24 (by decide), qc_tn_mul]
  refine Eq.trans s4 ?_
  have e6 : qc_pc x 32 = 0 + β 0 + β 1 + β 2 + β 3 + β 4 + β 5 + β 6 + β 7 + β 8 + β 9 + β 10 + β 11 + β 12 + β 13 + β 14 + β 15 + β 16 + β 17 + β 18 + β 19 + β 20 + β 21 + β 22 + β 23 + β 24 + β 25 + β 26 + β 27 + β 28 + β 29 + β 30 + β 31 := by
    rw [← hβe]; rfl
  have hle : ∀ k, qc_pc x k ≤ k := by
    intro k
    induction k with
    | zero => exact Nat.le_refl _
    | succ k ih =>
      show qc_pc x k + (if bt x k then 1 else 0) ≤ k + 1
      split <;> omega
  have e7 : qc_tn (nI (qc_pc x 32)) = qc_pc x 32 := pk_tn (Nat.lt_of_le_of_lt (hle 32) (by decide))
  rw [e7, e6]
  show ((β 0 + β 1 + (β 2 + β 3)) + (β 4 + β 5 + (β 6 + β 7))) + ((β 8 + β 9 + (β 10 + β 11)) + (β 12 + β 13 + (β 14 + β 15))) + ((β 16 + β 17 + (β 18 + β 19)) + (β 20 + β 21 + (β 22 + β 23))) + ((β 24 + β 25 + (β 26 + β 27)) + (β 28 + β 29 + (β 30 + β 31))) = _
  omega
theorem qc_pc_le (x : Int32) : ∀ k, qc_pc x k ≤ k
  | 0 => Nat.le_refl _
  | k + 1 => by
    have ih := qc_pc_le x k
    show qc_pc x k + (if bt x k then 1 else 0) ≤ k + 1
    split <;> omega
/-- the parity of the count -/
theorem qc_par (x y : Int32) (F : Nat → Bool) (h : ∀ m, m < 32 → bt y m = F m) : ∀ k, k ≤ 32 → qc_pc (x &&& y) k % 2 = (if qa_es F x k then 1 else 0)
  | 0, _ => rfl
  | k + 1, hk => by
    have ih := qc_par x y F h k (by omega)
    show (qc_pc (x &&& y) k + (if bt (x &&& y) k then 1 else 0)) % 2 = (if (qa_es F x k ^^ (bt x k && F k)) then 1 else 0)
    rw [b_and, h k (by omega)]
    revert ih
    cases qa_es F x k <;> cases bt x k <;> cases F k <;> simp <;> omega
theorem qc_p5 : ∀ a, a < 32 → qc_pc (nI a) 32 = qa_p5 a := by decide +kernel
end
section
/-! ===== tables ===== -/
def qx_mk (F : Nat → Bool) : Nat → Int32
  | 0 => 0
  | k + 1 => if F k then qx_mk F k ||| qa_mo k else qx_mk F k
theorem qx_mk_bt (F : Nat → Bool) : ∀ k, k ≤ 32 → ∀ i, bt (qx_mk F k) i = (decide (i < k) && F i)
  | 0, _, i => by
    show bt 0 i = _
    rw [b_0]; rfl
  | k + 1, hk, i => by
    have ih := qx_mk_bt F k (by omega) i
    have hk' : k < 32 := by omega
    show bt (if F k then qx_mk F k ||| qa_mo k else qx_mk F k) i = _
    by_cases e : i = k
    · subst e
      rw [decide_eq_true (Nat.lt_succ_self i), Bool.true_and]
      rw [decide_eq_false (Nat.lt_irrefl i), Bool.false_and] at ih
      cases hF : F i
      · rw [if_neg (by decide), ih]
      · rw [if_pos rfl, b_or, qa_bm hk', decide_eq_true rfl, Bool.or_true]
    · have e2 : decide (i < k + 1) = decide (i < k) := by rw [decide_eq_decide]; omega
      rw [e2, ← ih]
      split
      · rw [b_or, qa_bm hk', decide_eq_false e, Bool.or_false]
      · rfl
def qx_W (a : Nat → Int32) : Prop := ∀ v, v < 5 → a v = qx_mk (fun m => m.testBit v) 32
def qx_T (a : Nat → Int32) : Prop := ∀ x, x < 32 → a x = qx_mk (fun m => qa_dv m x) 32
theorem qx_btn {c : Nat} (hc : c < 32) (i : Nat) : bt (nI c) i = c.testBit i := by
  show (BitVec.ofNat 32 c).getLsbD i = _
  rw [BitVec.getLsbD_ofNat]
  rcases Nat.lt_or_ge i 32 with h | h
  · rw [decide_eq_true h, Bool.true_and]
  · rw [decide_eq_false (by omega), Bool.false_and]
    exact (Nat.testBit_lt_two_pow (Nat.lt_of_lt_of_le hc (Nat.le_trans (by decide : 32 ≤ 2 ^ 32) (Nat.pow_le_pow_right (by decide) h)))).symm
theorem qx_or (a b : Nat) : nI a ||| nI b = nI (a ||| b) := by
  apply Int32.toBitVec_inj.1
  show BitVec.ofNat 32 a ||| BitVec.ofNat 32 b = BitVec.ofNat 32 (a ||| b)
  apply BitVec.eq_of_getLsbD_eq
  intro i hi
  simp [hi]
theorem qx_df : ∀ a, a < 32 → ∀ b, b < 32 → nI a &&& (nI b ^^^ (-1)) = nI (qa_df a b) := by decide +kernel
theorem qx_dv {x : Int32} {a m : Nat} (hx : x = nI a) (ha : a < 32) : (x &&& nI m) = x ↔ a &&& m = a := by
  have h1 : a &&& m ≤ a := Nat.and_le_left
  rw [hx, nx_and, nI_eq (by omega) (by omega)]
theorem qx_dvb {x : Int32} {a m : Nat} {A B : Prop} (hx : x = nI a) (ha : a < 32) (f : a &&& m = a → A) (g : ¬ a &&& m = a → B) : ((x &&& nI m) = x → A) ∧ (¬ (x &&& nI m) = x → B) := by
  rw [qx_dv hx ha]
  exact ⟨f, g⟩
/-! ===== times a monomial ===== -/
def qx_st (v : Nat) (r : Int32) : Int32 := (r &&& qx_mk (fun m => m.testBit v) 32) ^^^ ((r &&& (qx_mk (fun m => m.testBit v) 32 ^^^ (-1))) <<< (((1 : Int32) <<< (nI v &&& 31)) &&& 31))
theorem qx_1v : ∀ v, v < 5 → (1 : Int32) <<< (nI v &&& 31) = nI (2 ^ v) ∧ 2 ^ v < 32 := by decide +kernel
theorem qx_st_mo : ∀ v, v < 5 → ∀ m, m < 32 → qx_st v (qa_mo m) = qa_mo (m ||| 2 ^ v) := by decide +kernel
theorem qx_st_x {v : Nat} (hv : v < 5) (p q : Int32) : qx_st v (p ^^^ q) = qx_st v p ^^^ qx_st v q := by
  unfold qx_st
  rw [(qx_1v v hv).1]
  apply b_ext
  intro i hi
  simp only [b_xor, b_and, b_shl _ (qx_1v v hv).2 _ hi]
  generalize (bt (qx_mk (fun m => m.testBit v) 32) (i - 2 ^ v) ^^ bt (-1) (i - 2 ^ v)) = x1
  generalize bt (qx_mk (fun m => m.testBit v) 32) i = x2
  generalize decide (2 ^ v ≤ i) = x3
  generalize bt p i = x4
  generalize bt q i = x5
  generalize bt p (i - 2 ^ v) = x6
  generalize bt q (i - 2 ^ v) = x7
  revert x1 x2 x3 x4 x5 x6 x7
  decide
theorem qx_st_eq {v : Nat} (hv : v < 5) (r : Int32) : qx_st v r = qa_mul r (2 ^ v) :=
  qa_lin (F := qx_st v) (G := fun r => qa_mul r (2 ^ v)) (qx_st_x hv) (fun p q => qa_mul_xor p q (2 ^ v)) (fun m hm => by
    show qx_st v (qa_mo m) = qa_mul (qa_mo m) (2 ^ v)
    rw [qx_st_mo v hv m hm, qa_mul_mo hm]) r
theorem qx_md_f {c v : Nat} (h : c.testBit v = false) : c % 2 ^ (v + 1) = c % 2 ^ v := by
  apply Nat.eq_of_testBit_eq
  intro i
  rw [Nat.testBit_mod_two_pow, Nat.testBit_mod_two_pow]
  by_cases e : i = v
  · rw [e, h, Bool.and_false, Bool.and_false]
  · have : decide (i < v + 1) = decide (i < v) := by rw [decide_eq_decide]; omega
    rw [this]
theorem qx_md_t {c v : Nat} (h : c.testBit v = true) : c % 2 ^ (v + 1) = c % 2 ^ v ||| 2 ^ v := by
  apply Nat.eq_of_testBit_eq
  intro i
  rw [Nat.testBit_or, Nat.testBit_mod_two_pow, Nat.testBit_mod_two_pow, Nat.testBit_two_pow]
  by_cases e : i = v
  · rw [e, h, decide_eq_true (Nat.lt_succ_self v), decide_eq_true rfl, Bool.or_true]; rfl
  · have e1 : decide (i < v + 1) = decide (i < v) := by rw [decide_eq_decide]; omega
    rw [e1, decide_eq_false (fun z : v = i => e z.symm), Bool.or_false]
section
variable {vc sz od rm wk gc bp bc cp ct sc ec pc : Int32} {aW aT aM aR aG aB aL aC aS aE aD aF aO aK aP : Nat → Int32} {n s : Nat}
theorem wx_cb {post : Int32 → Prop} (x : Int32) (h : post (nI (qc_pc x 32))) : wpX_countBits post (vc, sz, od, rm, wk, gc, bp, bc, cp, ct, sc, ec, pc, aW, aT, aM, aR, aG, aB, aL, aC, aS, aE, aD, aF, aO, aK, aP) x := by
  intro v1 e1 v2 e2 v3 e3
  rw [qc_swar x v1 v2 v3 e1 e2 e3]
  exact h
theorem wx_tm_l {post : Int32 → Prop} (hn : n ≤ 5) (hW : qx_W aW) (p : Int32) {c : Nat} (hc : c < 2 ^ n) (h : post (qa_mul p c)) :
    ∀ d v, v + d = n → ∀ f, d < f → ∀ r, r = qa_mul p (c % 2 ^ v) → wX_timesMonomial_5 post (nI c) (nI n) sz od rm wk gc bp bc cp ct sc ec pc aW aT aM aR aG aB aL aC aS aE aD aF aO aK aP f r (nI v) := by
  have h32 : 2 ^ n ≤ 32 := Nat.pow_le_pow_right (by decide) hn
  intro d
  induction d with
  | zero =>
    intro v hv f hf r hr
    obtain ⟨f, rfl⟩ : ∃ k, f = k + 1 := ⟨f - 1, by omega⟩
    have e : v = n := by omega
    subst e
    rw [hr, Nat.mod_eq_of_lt hc]
    exact br_t (nI_le (Nat.le_refl _) (by omega)) h
  | succ d ih =>
    intro v hv f hf r hr
    obtain ⟨f, rfl⟩ : ∃ k, f = k + 1 := ⟨f - 1, by omega⟩
    have hv5 : v < 5 := by omega
    have hi : vp_in (nI v) 5 := vp_in_nI hv5 (by decide)
    refine br_f (nI_ge (by omega) (by omega)) (qa_br0 (by omega) (fun hb => nm_r (nI_1 v) ?_) (fun hb => ⟨hi, nm_e ⟨hi, nm_e (nm_r (e' := qa_mul p (c % 2 ^ (v + 1))) ?_ (nm_r (nI_1 v) ?_))⟩⟩))
    · rw [qx_btn (by omega)] at hb
      exact ih (v + 1) (by omega) f (by omega) r (by rw [qx_md_f hb]; exact hr)
    · rw [qx_btn (by omega)] at hb
      have m32 : c % 2 ^ v < 32 := Nat.lt_of_le_of_lt (Nat.mod_le _ _) (by omega)
      rw [nI_clamp (by omega), hW v hv5, qx_md_t hb, ← qa_mul_mul _ m32, ← hr, ← qx_st_eq hv5]
      rfl
    · exact ih (v + 1) (by omega) f (by omega) _ rfl
theorem wx_tm {post : Int32 → Prop} (hn : n ≤ 5) (hW : qx_W aW) (p : Int32) {c : Nat} (hc : c < 2 ^ n) (h : post (qa_mul p c)) : wpX_timesMonomial post (nI n, sz, od, rm, wk, gc, bp, bc, cp, ct, sc, ec, pc, aW, aT, aM, aR, aG, aB, aL, aC, aS, aE, aD, aF, aO, aK, aP) p (nI c) :=
  ⟨n + 1, wx_tm_l hn hW p hc h n 0 (by omega) (n + 1) (by omega) p (by rw [Nat.pow_zero, Nat.mod_one, qa_mul_1])⟩
theorem wx_pr_l {post : Int32 → Prop} (hn : n ≤ 5) (hs : s = 2 ^ n) (hW : qx_W aW) {p q : Int32} (hp : qa_in s p) (h : post (qa_pr p q)) :
    ∀ d k, k + d = s → ∀ f, d < f → wX_product_5 post p q (nI n) (nI s) od rm wk gc bp bc cp ct sc ec pc aW aT aM aR aG aB aL aC aS aE aD aF aO aK aP f (qa_ls (fun m => qa_mul q m) p k) (nI k) := by
  have h32 : 2 ^ n ≤ 32 := Nat.pow_le_pow_right (by decide) hn
  intro d
  induction d with
  | zero =>
    intro k hk f hf
    obtain ⟨f, rfl⟩ : ∃ k, f = k + 1 := ⟨f - 1, by omega⟩
    have e : qa_ls (fun m => qa_mul q m) p k = qa_pr p q := by
      apply b_ext
      intro i _
      unfold qa_pr
      rw [qa_ls_bt, qa_ls_bt, show 32 = k + (32 - k) by omega, qa_es_up (fun m hm => by have := hp m hm; omega)]
    rw [e]
    exact br_t (nI_le (by omega) (by omega)) h
  | succ d ih =>
    intro k hk f hf
    obtain ⟨f, rfl⟩ : ∃ k, f = k + 1 := ⟨f - 1, by omega⟩
    have i1 := ih (k + 1) (by omega) f (by omega)
    refine br_f (nI_ge (by omega) (by omega)) (qa_br0 (by omega) (fun hb => nm_r (nI_1 k) ?_) (fun hb => ?_))
    · rw [qa_ls_f hb] at i1
      exact i1
    · refine wx_tm hn hW q (by omega) ?_
      rw [qa_ls_t hb] at i1
      exact nm_e (nm_r (nI_1 k) i1)
theorem wx_pr {post : Int32 → Prop} (hn : n ≤ 5) (hs : s = 2 ^ n) (hW : qx_W aW) {p q : Int32} (hp : qa_in s p) (h : post (qa_pr p q)) : wpX_product post (nI n, nI s, od, rm, wk, gc, bp, bc, cp, ct, sc, ec, pc, aW, aT, aM, aR, aG, aB, aL, aC, aS, aE, aD, aF, aO, aK, aP) p q :=
  ⟨s + 1, wx_pr_l hn hs hW hp h s 0 (by omega) (s + 1) (by omega)⟩
theorem wx_va {post : Int32 → Prop} (hT : qx_T aT) (p : Int32) {x : Nat} (hx : x < 32) (h : post (if qa_ev p x then 1 else 0)) : wpX_valueAt post (vc, sz, od, rm, wk, gc, bp, bc, cp, ct, sc, ec, pc, aW, aT, aM, aR, aG, aB, aL, aC, aS, aE, aD, aF, aO, aK, aP) p (nI x) := by
  refine ⟨vp_in_nI hx (by decide), wx_cb _ ?_⟩
  rw [nI_clamp (by omega), hT x hx]
  have e1 := qc_par p (qx_mk (fun m => qa_dv m x) 32) (fun m => qa_dv m x) (fun m hm => by rw [qx_mk_bt _ 32 (Nat.le_refl _), decide_eq_true hm, Bool.true_and]) 32 (Nat.le_refl _)
  have e2 : nI (qc_pc (p &&& qx_mk (fun m => qa_dv m x) 32) 32) &&& 1 = (if qa_ev p x then 1 else 0) := by
    show _ &&& nI 1 = _
    rw [nx_and, Nat.and_one_is_mod, e1]
    show nI (if qa_ev p x then 1 else 0) = _
    cases qa_ev p x <;> rfl
  rw [e2]
  exact h
end
end
section
/-! ===== the workbench, reading ===== -/
def qx_E (w : Nat → Nat) (s e : Nat) (aE aD : Nat → Int32) (l : Nat → Nat) : Prop :=
  e ≤ 32 ∧ ∀ i, i < e → aD i = nI (l i) ∧ qa_in s (aE i) ∧ qa_ld w (aE i) (l i)
theorem qx_E32 {w : Nat → Nat} {s e : Nat} {aE aD : Nat → Int32} {l : Nat → Nat} (h : qx_E w s e aE aD l) {i : Nat} (hi : i < e) : l i < 32 := qa_lt (h.2 i hi).2.2.1
theorem qx_Es {w : Nat → Nat} {s e : Nat} {aE aD : Nat → Int32} {l : Nat → Nat} (h : qx_E w s e aE aD l) {i : Nat} (hi : i < e) : l i < s := (h.2 i hi).2.1 _ (h.2 i hi).2.2.1
section
variable {vc sz od rm wk gc bp bc cp ct sc ec pc : Int32} {aW aT aM aR aG aB aL aC aS aE aD aF aO aK aP : Nat → Int32} {n s e : Nat} {w : Nat → Nat} {l : Nat → Nat}
theorem wx_lo_l {post : Int32 → Prop} (hw : qa_wo w) (hs : s ≤ 32) (hA : qa_As w s aM) {p : Int32} {m : Nat} (hp : qa_in s p) (hl : qa_ld w p m) (h : post (nI m)) :
    ∀ d, qa_rk w s m + d < s → ∀ f, d < f → wX_leadOf_7 post p vc (nI s) od rm wk gc bp bc cp ct sc ec pc aW aT aM aR aG aB aL aC aS aE aD aF aO aK aP f (nI (qa_rk w s m + d)) := by
  have ms := hp m hl.1
  have m32 := qa_lt hl.1
  intro d
  induction d with
  | zero =>
    intro hd f hf
    obtain ⟨f, rfl⟩ : ∃ k, f = k + 1 := ⟨f - 1, by omega⟩
    refine br_f (nI_pos (by omega)) ⟨vp_in_nI (by omega) (by decide), nm_r (e' := nI m) ?_ (qa_br0 m32 (fun hb => ?_) (fun _ => h))⟩
    · rw [nI_clamp (by omega), Nat.add_zero]
      exact hA m ms
    · rw [hl.1] at hb
      exact nomatch hb
  | succ d ih =>
    intro hd f hf
    obtain ⟨f, rfl⟩ : ∃ k, f = k + 1 := ⟨f - 1, by omega⟩
    have ho := qa_od_s hw hs hd
    refine br_f (nI_pos (by omega)) ⟨vp_in_nI (by omega) (by decide), nm_r (e' := nI (qa_od w s (qa_rk w s m + (d + 1)))) ?_ (qa_br0 (by omega) (fun hb => nm_r (e' := nI (qa_rk w s m + d)) (pk_m1 _) ?_) (fun hb => ?_))⟩
    · rw [nI_clamp (by omega)]
      exact qa_As_r hw hs hA hd
    · exact ih (by omega) f (by omega)
    · have h1 := hl.2 _ hb
      have h2 := qa_od_lt hw hs (show qa_rk w s m < qa_rk w s m + (d + 1) by omega) hd
      rw [qa_od_rk hw hs ms] at h2
      omega
theorem wx_lo {post : Int32 → Prop} (hw : qa_wo w) (hs : s ≤ 32) (hA : qa_As w s aM) {p : Int32} {m : Nat} (hp : qa_in s p) (hl : qa_ld w p m) (h : post (nI m)) : wpX_leadOf post (vc, nI s, od, rm, wk, gc, bp, bc, cp, ct, sc, ec, pc, aW, aT, aM, aR, aG, aB, aL, aC, aS, aE, aD, aF, aO, aK, aP) p := by
  have hr := qa_rk_lt w (hp m hl.1)
  refine nm_r (e' := nI (qa_rk w s m + (s - 1 - qa_rk w s m))) ?_ ⟨s + 1, wx_lo_l hw hs hA hp hl h _ (by omega) (s + 1) (by omega)⟩
  obtain ⟨k, rfl⟩ : ∃ k, s = k + 1 := ⟨s - 1, by omega⟩
  rw [nI_pred, show qa_rk w (k + 1) m + (k + 1 - 1 - qa_rk w (k + 1) m) = k by omega]
theorem wx_fr_y {post : Int32 → Prop} (he : e ≤ 32) (hD : ∀ i, i < e → aD i = nI (l i) ∧ l i < 32) {m i : Nat} (hi : i < e) (hd : l i &&& m = l i) (hl : ∀ j, j < i → ¬ l j &&& m = l j) (h : post (nI i)) : wpX_findReducer post (vc, sz, od, rm, wk, gc, bp, bc, cp, ct, sc, nI e, pc, aW, aT, aM, aR, aG, aB, aL, aC, aS, aE, aD, aF, aO, aK, aP) (nI m) := by
  have key : ∀ d k, k + d = i → ∀ f, d < f → wX_findReducer_2 post (nI m) vc sz od rm wk gc bp bc cp ct sc (nI e) pc aW aT aM aR aG aB aL aC aS aE aD aF aO aK aP f (nI k) := by
    intro d
    induction d with
    | zero =>
      intro k hk f hf
      obtain ⟨f, rfl⟩ : ∃ k, f = k + 1 := ⟨f - 1, by omega⟩
      have ek : k = i := by omega
      subst ek
      have hv : vp_in (nI k) 32 := vp_in_nI (by omega) (by decide)
      exact br_f (nI_ge (by omega) (by omega)) ⟨hv, hv, qx_dvb (a := l k) (by rw [nI_clamp (by omega)]; exact (hD k hi).1) (hD k hi).2 (fun _ => h) (fun z => absurd hd z)⟩
    | succ d ih =>
      intro k hk f hf
      obtain ⟨f, rfl⟩ : ∃ k, f = k + 1 := ⟨f - 1, by omega⟩
      have hv : vp_in (nI k) 32 := vp_in_nI (by omega) (by decide)
      have hke : k < e := by omega
      exact br_f (nI_ge (by omega) (by omega)) ⟨hv, hv, qx_dvb (a := l k) (by rw [nI_clamp (by omega)]; exact (hD k hke).1) (hD k hke).2 (fun z => absurd z (hl k (by omega))) (fun _ => nm_r (nI_1 k) (ih (k + 1) (by omega) f (by omega)))⟩
  exact ⟨i + 1, key i 0 (by omega) (i + 1) (by omega)⟩
theorem wx_fr_n {post : Int32 → Prop} (he : e ≤ 32) (hD : ∀ i, i < e → aD i = nI (l i) ∧ l i < 32) {m : Nat} (hl : ∀ j, j < e → ¬ l j &&& m = l j) (h : post (-1)) : wpX_findReducer post (vc, sz, od, rm, wk, gc, bp, bc, cp, ct, sc, nI e, pc, aW, aT, aM, aR, aG, aB, aL, aC, aS, aE, aD, aF, aO, aK, aP) (nI m) := by
  have key : ∀ d k, k + d = e → ∀ f, d < f → wX_findReducer_2 post (nI m) vc sz od rm wk gc bp bc cp ct sc (nI e) pc aW aT aM aR aG aB aL aC aS aE aD aF aO aK aP f (nI k) := by
    intro d
    induction d with
    | zero =>
      intro k hk f hf
      obtain ⟨f, rfl⟩ : ∃ k, f = k + 1 := ⟨f - 1, by omega⟩
      exact br_t (nI_le (by omega) (by omega)) h
    | succ d ih =>
      intro k hk f hf
      obtain ⟨f, rfl⟩ : ∃ k, f = k + 1 := ⟨f - 1, by omega⟩
      have hv : vp_in (nI k) 32 := vp_in_nI (by omega) (by decide)
      have hke : k < e := by omega
      exact br_f (nI_ge (by omega) (by omega)) ⟨hv, hv, qx_dvb (a := l k) (by rw [nI_clamp (by omega)]; exact (hD k hke).1) (hD k hke).2 (fun z => absurd z (hl k (by omega))) (fun _ => nm_r (nI_1 k) (ih (k + 1) (by omega) f (by omega)))⟩
  exact ⟨e + 1, key e 0 (by omega) (e + 1) (by omega)⟩
/-- what a reduction gives -/
def qx_NF (w : Nat → Nat) (s e : Nat) (g : Nat → Int32) (l : Nat → Nat) (q r : Int32) : Prop :=
  qa_in s r ∧ (∀ m, bt r m = true → ∀ i, i < e → ¬ l i &&& m = l i) ∧ ∀ t, (∀ m, bt q m = true → w m < t) → qa_V w s e g l t (q ^^^ r)
theorem wx_nf_l (hn : n ≤ 5) (hs : s = 2 ^ n) (hW : qx_W aW) (hw : qa_wo w) (hA : qa_As w s aM) (hE : qx_E w s e aE aD l) :
    ∀ k, k ≤ s → ∀ q, qa_in s q → (∀ r, k ≤ r → r < s → bt q (qa_od w s r) = true → ∀ i, i < e → ¬ l i &&& qa_od w s r = l i) →
    ∃ r, qx_NF w s e aE l q r ∧ ∀ post : Int32 → Prop, post r → ∀ f, k < f → wX_normalForm_9 post (nI n) (nI s) od rm wk gc bp bc cp ct sc (nI e) pc aW aT aM aR aG aB aL aC aS aE aD aF aO aK aP f q (nI k + (-1)) := by
  have hz : qa_sz s := by rw [hs]; exact qa_sz_n hn
  have s32 := hz.2.1
  have he := hE.1
  have hD : ∀ i, i < e → aD i = nI (l i) ∧ l i < 32 := fun i hi => ⟨(hE.2 i hi).1, qx_E32 hE hi⟩
  intro k
  induction k with
  | zero =>
    intro _ q hq hir
    refine ⟨q, ⟨hq, ?_, ?_⟩, ?_⟩
    · intro m hm i hi
      have := hir (qa_rk w s m) (Nat.zero_le _) (qa_rk_lt w (hq m hm))
      rw [qa_od_rk hw s32 (hq m hm)] at this
      exact this hm i hi
    · intro t _
      rw [qa_xx]
      exact qa_V_0 t
    · intro post hp f hf
      obtain ⟨f, rfl⟩ : ∃ k, f = k + 1 := ⟨f - 1, by omega⟩
      exact br_t (by decide) hp
  | succ k ih =>
    intro hk q hq hir
    have hks : k < s := by omega
    obtain ⟨ms, mr⟩ := qa_od_s hw s32 hks
    have eA := qa_As_r hw s32 hA hks
    generalize hm : qa_od w s k = m at ms mr eA
    have m32 : m < 32 := by omega
    have hv : vp_in (nI k) 32 := vp_in_nI (by omega) (by decide)
    have eA' : aM (nI k).toNatClampNeg = nI m := by rw [nI_clamp (by omega)]; exact eA
    by_cases hb : bt q m = true
    · by_cases hred : ∃ i, i < e ∧ l i &&& m = l i
      · obtain ⟨i, ⟨hi, hd⟩, hleast⟩ := pk_least (fun i => i < e ∧ l i &&& m = l i) hred
        have hl : ∀ j, j < i → ¬ l j &&& m = l j := fun j hj z => hleast j hj ⟨by omega, z⟩
        have hLd := (hE.2 i hi).2.2
        have li32 := qx_E32 hE hi
        have c32 : qa_df m (l i) < 32 := qa_dn_lt m32
        have cs : qa_df m (l i) < s := Nat.lt_of_le_of_lt (qa_df_le _ _) ms
        have hL := qa_ld_mul hw hLd c32 (qa_df_dj m (l i))
        rw [qa_df_or hd] at hL
        have wm := qa_wo_sp hw m32 hd
        obtain ⟨r, ⟨r1, r2, r3⟩, hr⟩ := ih (by omega) (q ^^^ qa_mul (aE i) (qa_df m (l i))) (qa_in_xor hq (qa_mul_in hz (hE.2 i hi).2.1 cs)) (by
          intro r hkr hrs hbr j hj
          by_cases er : r = k
          · rw [er, hm, b_xor, hb, hL.1] at hbr
            exact nomatch hbr
          · have hlt := qa_od_lt hw s32 (show k < r by omega) hrs
            rw [hm] at hlt
            refine hir r (by omega) hrs ?_ j hj
            rw [b_xor] at hbr
            cases e1 : bt (qa_mul (aE i) (qa_df m (l i))) (qa_od w s r)
            · rw [e1, Bool.xor_false] at hbr
              exact hbr
            · have := hL.2 _ e1
              omega)
        refine ⟨r, ⟨r1, r2, ?_⟩, ?_⟩
        · intro t ht
          have h1 : qa_V w s e aE l t (qa_mul (aE i) (qa_df m (l i))) := qa_V_g hi cs (by have := ht m hb; omega)
          have h2 := r3 t (by
            intro u hu
            rw [b_xor] at hu
            cases e1 : bt q u
            · rw [e1, Bool.false_xor] at hu
              have := hL.2 u hu
              have := ht m hb
              omega
            · exact ht u e1)
          have h3 := qa_V_x h1 h2
          have e3 : ∀ x y z : Int32, x ^^^ ((y ^^^ x) ^^^ z) = y ^^^ z := by
            intro x y z
            rw [qa_xc y x, qa_xa, ← qa_xa x x, qa_xx, qa_0x]
          rw [e3] at h3
          exact h3
        · intro post hp f hf
          obtain ⟨f, rfl⟩ : ∃ k, f = k + 1 := ⟨f - 1, by omega⟩
          rw [pk_m1]
          refine br_f (nI_pos (by omega)) ⟨hv, nm_r eA' (qa_br0 m32 (fun z => ?_) (fun _ => ?_))⟩
          · rw [hb] at z
            exact nomatch z
          · refine wx_fr_y he hD hi hd hl ?_
            have hvi : vp_in (nI i) 32 := vp_in_nI (by omega) (by decide)
            refine br_f (nI_pos (by omega)) ⟨hvi, hvi, ?_⟩
            rw [nI_clamp (n := i) (by omega), (hD i hi).1, qx_df m m32 (l i) li32]
            refine wx_tm hn hW _ (by omega) ?_
            exact nm_e (nm_e (hr post hp f (by omega)))
      · obtain ⟨r, ⟨r1, r2, r3⟩, hr⟩ := ih (by omega) q hq (by
          intro r hkr hrs hbr j hj
          by_cases er : r = k
          · rw [er, hm]
            exact fun z => hred ⟨j, hj, z⟩
          · exact hir r (by omega) hrs hbr j hj)
        refine ⟨r, ⟨r1, r2, r3⟩, ?_⟩
        intro post hp f hf
        obtain ⟨f, rfl⟩ : ∃ k, f = k + 1 := ⟨f - 1, by omega⟩
        rw [pk_m1]
        refine br_f (nI_pos (by omega)) ⟨hv, nm_r eA' (qa_br0 m32 (fun z => ?_) (fun _ => ?_))⟩
        · rw [hb] at z
          exact nomatch z
        · refine wx_fr_n he hD (fun j hj z => hred ⟨j, hj, z⟩) ?_
          exact br_t (by decide) (nm_e (hr post hp f (by omega)))
    · have hb' : bt q m = false := by
        cases e1 : bt q m
        · rfl
        · exact absurd e1 hb
      obtain ⟨r, ⟨r1, r2, r3⟩, hr⟩ := ih (by omega) q hq (by
        intro r hkr hrs hbr j hj
        by_cases er : r = k
        · rw [er, hm] at hbr
          exact absurd hbr hb
        · exact hir r (by omega) hrs hbr j hj)
      refine ⟨r, ⟨r1, r2, r3⟩, ?_⟩
      intro post hp f hf
      obtain ⟨f, rfl⟩ : ∃ k, f = k + 1 := ⟨f - 1, by omega⟩
      rw [pk_m1]
      refine br_f (nI_pos (by omega)) ⟨hv, nm_r eA' (qa_br0 m32 (fun _ => nm_e (hr post hp f (by omega))) (fun z => absurd z hb))⟩
theorem wx_nf (hn : n ≤ 5) (hs : s = 2 ^ n) (hW : qx_W aW) (hw : qa_wo w) (hA : qa_As w s aM) (hE : qx_E w s e aE aD l) {q : Int32} (hq : qa_in s q) :
    ∃ r, qx_NF w s e aE l q r ∧ ∀ post : Int32 → Prop, post r → wpX_normalForm post (nI n, nI s, od, rm, wk, gc, bp, bc, cp, ct, sc, nI e, pc, aW, aT, aM, aR, aG, aB, aL, aC, aS, aE, aD, aF, aO, aK, aP) q := by
  obtain ⟨r, h1, h2⟩ := wx_nf_l (od := od) (rm := rm) (wk := wk) (gc := gc) (bp := bp) (bc := bc) (cp := cp) (ct := ct) (sc := sc) (pc := pc) (aW := aW) (aT := aT) (aM := aM) (aR := aR) (aG := aG) (aB := aB) (aL := aL) (aC := aC) (aS := aS) (aE := aE) (aD := aD) (aF := aF) (aO := aO) (aK := aK) (aP := aP) hn hs hW hw hA hE s (Nat.le_refl _) q hq (fun r h3 h4 => by omega)
  exact ⟨r, h1, fun post hp => nm_e ⟨s + 1, by rw [Int32.sub_eq_add_neg]; exact h2 post hp (s + 1) (by omega)⟩⟩
end
end
section
/-! ===== least leads, pairs: reading ===== -/
/-- m is a lead that no other lead divides -/
def qx_ML (e : Nat) (l : Nat → Nat) (m : Nat) : Prop := (∃ i, i < e ∧ l i = m) ∧ ∀ j, j < e → ¬ l j = m → ¬ l j &&& m = l j
/-- where the pair (a, b) is marked -/
def qx_ix (a b : Nat) : Nat := if b < 32 ∧ a < b then b * 37 + a else a * 37 + b
theorem qx_nb {x : Int32} (h : x = 0 ∨ x = 1) : narrow .boolean (.int x) = .int x := by
  rcases h with h | h
  · rw [h]; rfl
  · rw [h]; rfl
section
variable {vc sz od rm wk gc bp bc cp ct sc ec pc : Int32} {aW aT aM aR aG aB aL aC aS aE aD aF aO aK aP : Nat → Int32} {n s e : Nat} {w : Nat → Nat} {l : Nat → Nat}
theorem wx_ml {post : Int32 → Prop} (he : e ≤ 32) (hD : ∀ i, i < e → aD i = nI (l i) ∧ l i < 32) {m : Nat} (hm : m < 32) (h1 : qx_ML e l m → post 1) (h0 : ¬ qx_ML e l m → post 0) : wpX_isMinimalLead post (vc, sz, od, rm, wk, gc, bp, bc, cp, ct, sc, nI e, pc, aW, aT, aM, aR, aG, aB, aL, aC, aS, aE, aD, aF, aO, aK, aP) (nI m) := by
  have key : ∀ d k, k + d = e → ∀ f, d < f → ∀ x, ((x = 1 ∧ ∃ i, i < k ∧ l i = m) ∨ (x = 0 ∧ ∀ i, i < k → ¬ l i = m)) → (∀ j, j < k → ¬ l j = m → ¬ l j &&& m = l j) → wX_isMinimalLead_4 post (nI m) vc sz od rm wk gc bp bc cp ct sc (nI e) pc aW aT aM aR aG aB aL aC aS aE aD aF aO aK aP f x (nI k) := by
    intro d
    induction d with
    | zero =>
      intro k hk f hf x hx hj
      obtain ⟨f, rfl⟩ : ∃ k, f = k + 1 := ⟨f - 1, by omega⟩
      have ek : k = e := by omega
      subst ek
      refine br_t (nI_le (by omega) (by omega)) ?_
      rcases hx with ⟨hx, hi⟩ | ⟨hx, hi⟩
      · refine ⟨qx_nb (Or.inr hx), ?_⟩
        rw [hx]
        exact h1 ⟨hi, hj⟩
      · refine ⟨qx_nb (Or.inl hx), ?_⟩
        rw [hx]
        refine h0 fun z => ?_
        obtain ⟨i, hi1, hi2⟩ := z.1
        exact hi i hi1 hi2
    | succ d ih =>
      intro k hk f hf x hx hj
      obtain ⟨f, rfl⟩ : ∃ k, f = k + 1 := ⟨f - 1, by omega⟩
      have hv : vp_in (nI k) 32 := vp_in_nI (by omega) (by decide)
      have hke : k < e := by omega
      have eD : aD (nI k).toNatClampNeg = nI (l k) := by rw [nI_clamp (by omega)]; exact (hD k hke).1
      have l32 := (hD k hke).2
      refine br_f (nI_ge (by omega) (by omega)) ⟨hv, br_c (fun z => nm_r (nI_1 k) ?_) (fun z => ⟨hv, hv, qx_dvb (a := l k) eD l32 (fun z2 => ?_) (fun z2 => nm_r (nI_1 k) ?_)⟩)⟩
      · rw [eD, nI_eq (by omega) (by omega)] at z
        refine ih (k + 1) (by omega) f (by omega) 1 (Or.inl ⟨rfl, k, by omega, z⟩) ?_
        intro j hj1 hj2
        by_cases ejk : j = k
        · rw [ejk] at hj2
          exact absurd z hj2
        · exact hj j (by omega) hj2
      · rw [eD, nI_eq (by omega) (by omega)] at z
        exact h0 fun zz => zz.2 k hke z z2
      · rw [eD, nI_eq (by omega) (by omega)] at z
        refine ih (k + 1) (by omega) f (by omega) x ?_ ?_
        · rcases hx with ⟨hx, i, hi1, hi2⟩ | ⟨hx, hi⟩
          · exact Or.inl ⟨hx, i, by omega, hi2⟩
          · refine Or.inr ⟨hx, fun i hi1 => ?_⟩
            by_cases eik : i = k
            · rw [eik]; exact z
            · exact hi i (by omega)
        · intro j hj1 hj2
          by_cases ejk : j = k
          · rw [ejk]; exact z2
          · exact hj j (by omega) hj2
  exact ⟨e + 1, key e 0 (by omega) (e + 1) (by omega) 0 (Or.inr ⟨rfl, fun i hi => absurd hi (Nat.not_lt_zero i)⟩) (fun j hj => absurd hj (Nat.not_lt_zero j))⟩
theorem qx_37 (a b : Nat) : nI a * 37 + nI b = nI (a * 37 + b) := by
  show nI a * nI 37 + nI b = _
  rw [pk_mul, nI_add]
theorem wx_pd {post : Int32 → Prop} (hP : ∀ j, aP j = 0 ∨ aP j = 1) {a b : Nat} (ha : a < 32) (hb : b < 37) (h : post (aP (qx_ix a b))) : wpX_isPending post (vc, sz, od, rm, wk, gc, bp, bc, cp, ct, sc, ec, pc, aW, aT, aM, aR, aG, aB, aL, aC, aS, aE, aD, aF, aO, aK, aP) (nI a) (nI b) := by
  have key : ¬ (b < 32 ∧ a < b) → wX_isPending_23 post (nI a) (nI b) vc sz od rm wk gc bp bc cp ct sc ec pc aW aT aM aR aG aB aL aC aS aE aD aF aO aK aP := by
    intro hn
    unfold qx_ix at h
    rw [if_neg hn] at h
    unfold wX_isPending_23
    rw [qx_37, nI_clamp (by omega)]
    exact ⟨vp_in_nI (by omega) (by decide), qx_nb (hP _), h⟩
  refine pk_le 32 b (fun h1 => key (by omega)) (fun h1 => pk_le b a (fun h2 => key (by omega)) (fun h2 => ?_))
  unfold qx_ix at h
  rw [if_pos ⟨h1, h2⟩] at h
  rw [qx_37, nI_clamp (by omega)]
  exact ⟨vp_in_nI (by omega) (by decide), qx_nb (hP _), h⟩
/-- what the chain criterion's test says -/
def qx_CV (e : Nat) (l : Nat → Nat) (aP : Nat → Int32) (c a b : Nat) : Prop :=
  ∃ k, k < e ∧ k ≠ a ∧ k ≠ b ∧ l k &&& c = l k ∧ aP (qx_ix a k) = 0 ∧ aP (qx_ix k b) = 0
theorem wx_cv_l (he : e ≤ 32) (hD : ∀ i, i < e → aD i = nI (l i) ∧ l i < 32) (hP : ∀ j, aP j = 0 ∨ aP j = 1) {a b c : Nat} (ha : a < 32) (hb : b < 37) :
    ∀ d k, k + d = e → ∃ r : Int32, (r = 0 ∨ (r = 1 ∧ qx_CV e l aP c a b)) ∧ ∀ post : Int32 → Prop, post r → ∀ f, d < f → wX_isCovered_25 post (nI a) (nI b) (nI c) vc sz od rm wk gc bp bc cp ct sc (nI e) pc aW aT aM aR aG aB aL aC aS aE aD aF aO aK aP f (nI k) := by
  intro d
  induction d with
  | zero =>
    intro k hk
    refine ⟨0, Or.inl rfl, fun post hp f hf => ?_⟩
    obtain ⟨f, rfl⟩ : ∃ k, f = k + 1 := ⟨f - 1, by omega⟩
    exact br_t (nI_le (by omega) (by omega)) hp
  | succ d ih =>
    intro k hk
    obtain ⟨r, hr, hw⟩ := ih (k + 1) (by omega)
    have hke : k < e := by omega
    have hv : vp_in (nI k) 32 := vp_in_nI (by omega) (by decide)
    have eD : aD (nI k).toNatClampNeg = nI (l k) := by rw [nI_clamp (by omega)]; exact (hD k hke).1
    have l32 := (hD k hke).2
    by_cases cov : (k ≠ a ∧ k ≠ b ∧ l k &&& c = l k) ∧ aP (qx_ix a k) = 0 ∧ aP (qx_ix k b) = 0
    · refine ⟨1, Or.inr ⟨rfl, k, hke, cov.1.1, cov.1.2.1, cov.1.2.2, cov.2.1, cov.2.2⟩, fun post hp f hf => ?_⟩
      obtain ⟨f, rfl⟩ : ∃ k, f = k + 1 := ⟨f - 1, by omega⟩
      refine br_f (nI_ge (by omega) (by omega)) (pk_eq k a (fun z => absurd z cov.1.1) (fun _ => pk_eq k b (fun z => absurd z cov.1.2.1) (fun _ => ⟨hv, hv, qx_dvb (a := l k) eD l32 (fun _ => ?_) (fun z => absurd cov.1.2.2 z)⟩)))
      refine wx_pd hP ha (by omega) (wx_pd hP (by omega) hb ?_)
      exact br_t cov.2.1 (br_t cov.2.2 hp)
    · refine ⟨r, hr, fun post hp f hf => ?_⟩
      obtain ⟨f, rfl⟩ : ∃ k, f = k + 1 := ⟨f - 1, by omega⟩
      have nx := hw post hp f (by omega)
      refine br_f (nI_ge (by omega) (by omega)) (pk_eq k a (fun _ => nm_r (nI_1 k) nx) (fun n1 => pk_eq k b (fun _ => nm_r (nI_1 k) nx) (fun n2 => ⟨hv, hv, qx_dvb (a := l k) eD l32 (fun n3 => ?_) (fun _ => nm_r (nI_1 k) nx)⟩)))
      refine wx_pd hP ha (by omega) (wx_pd hP (by omega) hb ?_)
      refine br_c (fun z1 => br_c (fun z2 => ?_) (fun _ => nm_r (nI_1 k) nx)) (fun _ => nm_r (nI_1 k) nx)
      exact absurd ⟨⟨n1, n2, n3⟩, z1, z2⟩ cov
theorem wx_cv (he : e ≤ 32) (hD : ∀ i, i < e → aD i = nI (l i) ∧ l i < 32) (hP : ∀ j, aP j = 0 ∨ aP j = 1) {a b : Nat} (ha : a < e) (hb : b < a ∨ (32 ≤ b ∧ b < 37)) :
    ∃ r : Int32, (r = 0 ∨ (r = 1 ∧ qx_CV e l aP (if b < 32 then l a ||| l b else l a) a b)) ∧ ∀ post : Int32 → Prop, post r → wpX_isCovered post (vc, sz, od, rm, wk, gc, bp, bc, cp, ct, sc, nI e, pc, aW, aT, aM, aR, aG, aB, aL, aC, aS, aE, aD, aF, aO, aK, aP) (nI a) (nI b) := by
  obtain ⟨r, hr, hw⟩ := wx_cv_l (vc := vc) (sz := sz) (od := od) (rm := rm) (wk := wk) (gc := gc) (bp := bp) (bc := bc) (cp := cp) (ct := ct) (sc := sc) (pc := pc) (aW := aW) (aT := aT) (aM := aM) (aR := aR) (aG := aG) (aB := aB) (aL := aL) (aC := aC) (aS := aS) (aE := aE) (aD := aD) (aF := aF) (aO := aO) (aK := aK) (aP := aP) (a := a) (b := b) (c := if b < 32 then l a ||| l b else l a) he hD hP (by omega) (by omega) e 0 (by omega)
  refine ⟨r, hr, fun post hp => ?_⟩
  have eD : aD (nI a).toNatClampNeg = nI (l a) := by rw [nI_clamp (by omega)]; exact (hD a ha).1
  have nx := hw post hp (e + 1) (by omega)
  refine ⟨vp_in_nI (by omega) (by decide), nm_r eD (pk_le 32 b (fun h1 => ?_) (fun h1 => ⟨vp_in_nI (by omega) (by decide), nm_r (e' := nI (l a ||| l b)) ?_ ?_⟩))⟩
  · rw [if_neg (by omega)] at nx
    exact ⟨e + 1, nx⟩
  · have eD2 : aD (nI b).toNatClampNeg = nI (l b) := by rw [nI_clamp (by omega)]; exact (hD b (by omega)).1
    rw [eD2, qx_or]
  · rw [if_pos h1] at nx
    exact ⟨e + 1, nx⟩
theorem wx_sp2 {post : Int32 → Prop} (hn : n ≤ 5) (hs : s = 2 ^ n) (hW : qx_W aW) (hE : qx_E w s e aE aD l) {a b : Nat} (ha : a < e) (hb : b < a) (h : post (qa_mul (aE a) (qa_df (l a ||| l b) (l a)) ^^^ qa_mul (aE b) (qa_df (l a ||| l b) (l b)))) : wpX_sPolynomial post (nI n, sz, od, rm, wk, gc, bp, bc, cp, ct, sc, nI e, pc, aW, aT, aM, aR, aG, aB, aL, aC, aS, aE, aD, aF, aO, aK, aP) (nI a) (nI b) := by
  have he := hE.1
  have hbe : b < e := by omega
  have sa := qx_Es hE ha
  have sb := qx_Es hE hbe
  have a32 := qx_E32 hE ha
  have b32 := qx_E32 hE hbe
  have hz : qa_sz s := by rw [hs]; exact qa_sz_n hn
  have ms := hz.2.2 _ _ sa sb
  have va : vp_in (nI a) 32 := vp_in_nI (by omega) (by decide)
  have vb : vp_in (nI b) 32 := vp_in_nI (by omega) (by decide)
  have c1 : (nI a).toNatClampNeg = a := nI_clamp (by omega)
  have c2 : (nI b).toNatClampNeg = b := nI_clamp (by omega)
  refine pk_lt b 32 (fun _ => ⟨va, vb, nm_r (e' := nI (l a ||| l b)) ?_ ⟨va, va, ?_⟩⟩) (fun z => by omega)
  · rw [c1, c2, (hE.2 a ha).1, (hE.2 b hbe).1, qx_or]
  · rw [c1, (hE.2 a ha).1, qx_df _ (qa_or32 a32 b32) _ a32]
    refine wx_tm hn hW _ (Nat.lt_of_le_of_lt (qa_df_le _ _) (by omega)) ⟨vb, vb, ?_⟩
    rw [c2, (hE.2 b hbe).1, qx_df _ (qa_or32 a32 b32) _ b32]
    exact wx_tm hn hW _ (Nat.lt_of_le_of_lt (qa_df_le _ _) (by omega)) h
theorem wx_sp1 {post : Int32 → Prop} (hn : n ≤ 5) (hs : s = 2 ^ n) (hW : qx_W aW) (he : e ≤ 32) {a v : Nat} (ha : a < e) (hv : v < 5) (hvs : 2 ^ v < s) (h : post (qa_mul (aE a) (2 ^ v) ^^^ aE a)) : wpX_sPolynomial post (nI n, sz, od, rm, wk, gc, bp, bc, cp, ct, sc, nI e, pc, aW, aT, aM, aR, aG, aB, aL, aC, aS, aE, aD, aF, aO, aK, aP) (nI a) (nI (32 + v)) := by
  have va : vp_in (nI a) 32 := vp_in_nI (by omega) (by decide)
  have c1 : (nI a).toNatClampNeg = a := nI_clamp (by omega)
  refine pk_lt (32 + v) 32 (fun z => by omega) (fun _ => ⟨va, ?_⟩)
  rw [c1, show (nI (32 + v) - 32 : Int32) = nI v from by
    show nI (32 + v) - nI 32 = nI v
    rw [pk_sub (by omega), show 32 + v - 32 = v by omega], (qx_1v v hv).1]
  exact wx_tm hn hW _ (by omega) ⟨va, h⟩
end
end
section
/-! ===== the completion: invariants ===== -/
def qx_PL (e : Nat) (l : Nat → Nat) (k : Nat) (aF aO aP : Nat → Int32) : Prop :=
  (∀ i, i < k → ∃ a b, aF i = nI a ∧ aO i = nI b ∧ a < e ∧ (b < a ∨ ∃ v, v < 5 ∧ b = 32 + v ∧ (l a).testBit v = true)) ∧
  (∀ a b, a < e → b < 37 → aP (a * 37 + b) = 1 → ∃ i, i < k ∧ aF i = nI a ∧ aO i = nI b) ∧
  (∀ j, aP j = 0 ∨ aP j = 1)
/-- every pair but those of X waits or is settled -/
def qx_I (X : Nat → Nat → Prop) (w : Nat → Nat) (s e : Nat) (g : Nat → Int32) (l : Nat → Nat) (aP : Nat → Int32) : Prop :=
  (∀ a b, b < a → a < e → X a b ∨ aP (a * 37 + b) = 1 ∨ qa_P w s e g l (l a ||| l b) a b) ∧
  (∀ a v, a < e → v < 5 → (l a).testBit v = true → X a (32 + v) ∨ aP (a * 37 + (32 + v)) = 1 ∨ qa_Q w s e g l a v)
def qx_no (_ _ : Nat) : Prop := False
def qx_ds (e : Nat) (l : Nat → Nat) : Prop := ∀ i j, i < j → j < e → ¬ l i &&& l j = l i
def qx_tr : Nat → Nat
  | 0 => 0
  | e + 1 => qx_tr e + (e + 5)
theorem qx_tr656 : ∀ e, e < 32 → qx_tr (e + 1) ≤ 656 := by decide +kernel
theorem qx_tr_le : ∀ e, e ≤ 32 → qx_tr e ≤ 656 := by decide +kernel
def qx_l (l : Nat → Nat) (e m : Nat) : Nat → Nat := fun j => if j = e then m else l j
theorem qx_l_t (l : Nat → Nat) (e m : Nat) : qx_l l e m e = m := if_pos rfl
theorem qx_l_n (l : Nat → Nat) {e m j : Nat} (h : j < e) : qx_l l e m j = l j := if_neg (by omega)
section
variable {X : Nat → Nat → Prop} {w : Nat → Nat} {s e k : Nat} {g : Nat → Int32} {l : Nat → Nat} {aF aO aP : Nat → Int32}
theorem qx_PL_add (h : qx_PL e l k aF aO aP) {a b : Nat} (ha : a < e) (he : e ≤ 32) (hb : b < a ∨ ∃ v, v < 5 ∧ b = 32 + v ∧ (l a).testBit v = true) : qx_PL e l (k + 1) (upd aF k (nI a)) (upd aO k (nI b)) (upd aP (a * 37 + b) 1) := by
  have hb37 : b < 37 := by
    rcases hb with hb | ⟨v, hv, hb, _⟩ <;> omega
  refine ⟨?_, ?_, ?_⟩
  · intro i hi
    by_cases ei : i = k
    · rw [ei, pk_us, pk_us]
      exact ⟨a, b, rfl, rfl, ha, hb⟩
    · rw [pk_un ei, pk_un ei]
      exact h.1 i (by omega)
  · intro a' b' ha' hb' hp
    by_cases ei : a' * 37 + b' = a * 37 + b
    · have e1 : a' = a := by omega
      have e2 : b' = b := by omega
      exact ⟨k, by omega, by rw [pk_us, e1], by rw [pk_us, e2]⟩
    · rw [pk_un ei] at hp
      obtain ⟨i, hi, h1, h2⟩ := h.2.1 a' b' ha' hb' hp
      exact ⟨i, by omega, by rw [pk_un (by omega)]; exact h1, by rw [pk_un (by omega)]; exact h2⟩
  · intro j
    by_cases ej : j = a * 37 + b
    · rw [ej, pk_us]; exact Or.inr rfl
    · rw [pk_un ej]; exact h.2.2 j
theorem qx_PL_row {m : Nat} {aQ : Nat → Int32} (h : qx_PL e l k aF aO aP) (hQ : ∀ j, aQ j = if e * 37 ≤ j ∧ j < e * 37 + 37 then 0 else aP j) : qx_PL (e + 1) (qx_l l e m) k aF aO aQ := by
  refine ⟨?_, ?_, ?_⟩
  · intro i hi
    obtain ⟨a, b, h1, h2, h3, h4⟩ := h.1 i hi
    refine ⟨a, b, h1, h2, by omega, ?_⟩
    rw [qx_l_n l h3]
    exact h4
  · intro a b ha hb hp
    rw [hQ] at hp
    by_cases ea : a = e
    · rw [ea, if_pos (by omega)] at hp
      exact absurd hp (by decide)
    · rw [if_neg (by omega)] at hp
      exact h.2.1 a b (by omega) hb hp
  · intro j
    rw [hQ]
    split
    · exact Or.inl rfl
    · exact h.2.2 j
theorem qx_PL_del (h : qx_PL e l (k + 1) aF aO aP) {i a b : Nat} (hi : i < k + 1) (hF : aF i = nI a) (hO : aO i = nI b) (ha : a < 32) (hb : b < 37) (he : e ≤ 32) : qx_PL e l k (upd aF i (aF k)) (upd aO i (aO k)) (upd aP (a * 37 + b) 0) := by
  refine ⟨?_, ?_, ?_⟩
  · intro j hj
    by_cases ej : j = i
    · rw [ej, pk_us, pk_us]
      exact h.1 k (by omega)
    · rw [pk_un ej, pk_un ej]
      exact h.1 j (by omega)
  · intro a' b' ha' hb' hp
    by_cases ei : a' * 37 + b' = a * 37 + b
    · rw [ei, pk_us] at hp
      exact absurd hp (by decide)
    · rw [pk_un ei] at hp
      obtain ⟨j, hj, h1, h2⟩ := h.2.1 a' b' ha' hb' hp
      by_cases ej : j = i
      · rw [ej, hF, nI_eq (by omega) (by omega)] at h1
        rw [ej, hO, nI_eq (by omega) (by omega)] at h2
        rw [h1, h2] at ei
        exact absurd rfl ei
      · by_cases ek : j = k
        · have hik : i < k := by omega
          rw [ek] at h1 h2
          exact ⟨i, hik, by rw [pk_us]; exact h1, by rw [pk_us]; exact h2⟩
        · exact ⟨j, by omega, by rw [pk_un ej]; exact h1, by rw [pk_un ej]; exact h2⟩
  · intro j
    by_cases ej : j = a * 37 + b
    · rw [ej, pk_us]; exact Or.inl rfl
    · rw [pk_un ej]; exact h.2.2 j
theorem qx_P_ext {g' : Nat → Int32} {l' : Nat → Nat} (hg : ∀ i, i < e → g' i = g i) (hl : ∀ i, i < e → l' i = l i) {a b m : Nat} (ha : a < e) (hb : b < e) (h : qa_P w s e g l m a b) : qa_P w s (e + 1) g' l' m a b := by
  unfold qa_P at *
  rw [hg a ha, hg b hb, hl a ha, hl b hb]
  exact qa_V_ext (by omega) hg hl h
theorem qx_Q_ext {g' : Nat → Int32} {l' : Nat → Nat} (hg : ∀ i, i < e → g' i = g i) (hl : ∀ i, i < e → l' i = l i) {a v : Nat} (ha : a < e) (h : qa_Q w s e g l a v) : qa_Q w s (e + 1) g' l' a v := by
  unfold qa_Q at *
  rw [hg a ha, hl a ha]
  exact qa_V_ext (by omega) hg hl h
/-- a new element -/
theorem qx_I_add (hw : qa_wo w) (hs : qa_sz s) (hg : ∀ i, i < e → qa_in s (g i) ∧ qa_ld w (g i) (l i)) (h : qx_I X w s e g l aP) {p : Int32} {m : Nat} (hp : qa_in s p) (hl : qa_ld w p m) {aQ : Nat → Int32}
    (h1 : ∀ a b, a < e → b < 37 → aQ (a * 37 + b) = aP (a * 37 + b)) (h2 : ∀ b, b < e → aQ (e * 37 + b) = 1 ∨ l b &&& m = 0)
    (h3 : ∀ v, v < 5 → m.testBit v = true → aQ (e * 37 + (32 + v)) = 1 ∨ qa_mul p (2 ^ v) = p) (he : e < 32) : qx_I X w s (e + 1) (upd g e p) (qx_l l e m) aQ := by
  have eg : ∀ i, i < e → upd g e p i = g i := fun i hi => pk_un (by omega)
  have el : ∀ i, i < e → qx_l l e m i = l i := fun i hi => qx_l_n l hi
  have hg' : ∀ i, i < e + 1 → qa_in s (upd g e p i) ∧ qa_ld w (upd g e p i) (qx_l l e m i) := by
    intro i hi
    by_cases ei : i = e
    · rw [ei, pk_us, qx_l_t]; exact ⟨hp, hl⟩
    · rw [eg i (by omega), el i (by omega)]; exact hg i (by omega)
  constructor
  · intro a b hba ha
    by_cases ea : a = e
    · rw [ea] at hba ⊢
      rcases h2 b hba with z | z
      · exact Or.inr (Or.inl z)
      · refine Or.inr (Or.inr (qa_prod hw hs hg' (by omega) (by omega) ?_))
        rw [qx_l_t, el b hba, Nat.and_comm]; exact z
    · have hae : a < e := by omega
      rw [h1 a b hae (by omega), el a hae, el b (by omega)]
      rcases h.1 a b hba hae with z | z | z
      · exact Or.inl z
      · exact Or.inr (Or.inl z)
      · exact Or.inr (Or.inr (qx_P_ext eg el hae (by omega) z))
  · intro a v ha hv ht
    by_cases ea : a = e
    · rw [ea, qx_l_t] at ht
      rw [ea]
      rcases h3 v hv ht with z | z
      · exact Or.inr (Or.inl z)
      · refine Or.inr (Or.inr ?_)
        unfold qa_Q
        rw [pk_us, qx_l_t, z]
        have q := qa_V_g (w := w) (s := s) (e := e + 1) (g := upd g e p) (l := qx_l l e m) (t := w m + w (2 ^ v)) (i := e) (c := 0) (by omega) hs.1 (by
          rw [qx_l_t, qa_wo_0 hw]
          have h5 := qa_2p.mpr ht
          have h6 := qa_sb_le h5
          have h7 := qa_lt hl.1
          have := hw.2.2.2 (2 ^ v) (by omega) (Nat.ne_of_gt (Nat.two_pow_pos v))
          omega)
        rw [pk_us, qa_mul_1] at q
        exact q
    · have hae : a < e := by omega
      rw [el a hae] at ht
      rw [h1 a (32 + v) hae (by omega)]
      rcases h.2 a v hae hv ht with z | z | z
      · exact Or.inl z
      · exact Or.inr (Or.inl z)
      · exact Or.inr (Or.inr (qx_Q_ext eg el hae z))
theorem qx_ds_add (h : qx_ds e l) {m : Nat} (hm : ∀ i, i < e → ¬ l i &&& m = l i) : qx_ds (e + 1) (qx_l l e m) := by
  intro i j hij hj
  by_cases ej : j = e
  · rw [ej, qx_l_t, qx_l_n l (by omega)]
    exact hm i (by omega)
  · rw [qx_l_n l (by omega), qx_l_n l (by omega)]
    exact h i j hij (by omega)
theorem qx_ds_lt (h : qx_ds e l) (hl : ∀ i, i < e → l i < 32) {m : Nat} (hm32 : m < 32) (hm : ∀ i, i < e → ¬ l i &&& m = l i) : e < 32 := by
  have h1 := qx_ds_add h hm
  have := qa_pig 32 (e + 1) (qx_l l e m) (by
    intro i hi
    by_cases ei : i = e
    · rw [ei, qx_l_t]; exact hm32
    · rw [qx_l_n l (by omega)]; exact hl i (by omega)) (by
    intro i j hij hj e1
    apply h1 i j hij hj
    rw [e1]
    exact qa_sb_refl _)
  omega
/-! a pair is settled -/
theorem qx_bits2 (hw : qa_wo w) {p q : Int32} {m : Nat} (hp : qa_ld w p m) (hq : qa_ld w q m) : ∀ t, bt (p ^^^ q) t = true → w t < w m := by
  intro t ht
  have hn : ¬ t = m := by
    intro e1
    rw [e1, b_xor, hp.1, hq.1] at ht
    exact nomatch ht
  rw [b_xor] at ht
  cases e1 : bt p t
  · rw [e1, Bool.false_xor] at ht
    exact qa_ld_lt hw hq ht hn
  · exact qa_ld_lt hw hp e1 hn
/-- the S-polynomial lies below the common multiple -/
theorem qx_sp_bd (hw : qa_wo w) (hg : ∀ i, i < e → qa_in s (g i) ∧ qa_ld w (g i) (l i)) {a b : Nat} (ha : a < e) (hb : b < e) :
    ∀ t, bt (qa_mul (g a) (qa_df (l a ||| l b) (l a)) ^^^ qa_mul (g b) (qa_df (l a ||| l b) (l b))) t = true → w t < w (l a ||| l b) := by
  have a32 := qa_lt (hg a ha).2.1
  have b32 := qa_lt (hg b hb).2.1
  have m32 := qa_or32 a32 b32
  have h1 := qa_ld_mul hw (hg a ha).2 (c := qa_df (l a ||| l b) (l a)) (qa_dn_lt m32) (qa_df_dj _ _)
  have h2 := qa_ld_mul hw (hg b hb).2 (c := qa_df (l a ||| l b) (l b)) (qa_dn_lt m32) (qa_df_dj _ _)
  rw [qa_df_or (qa_sb_l _ _)] at h1
  rw [qa_df_or (qa_sb_r _ _)] at h2
  exact qx_bits2 hw h1 h2
theorem qx_sq_bd (hw : qa_wo w) {p : Int32} {m v : Nat} (hl : qa_ld w p m) (hv : m.testBit v = true) : ∀ t, bt (qa_mul p (2 ^ v) ^^^ p) t = true → w t < w m + w (2 ^ v) := by
  intro t ht
  have m32 := qa_lt hl.1
  have h1 := qa_2p.mpr hv
  have v32 : 2 ^ v < 32 := Nat.lt_of_le_of_lt (qa_sb_le h1) m32
  have hpos := hw.2.2.2 (2 ^ v) v32 (Nat.ne_of_gt (Nat.two_pow_pos v))
  rw [b_xor] at ht
  cases e1 : bt p t
  · rw [e1, Bool.xor_false] at ht
    obtain ⟨u, hu, rfl⟩ := qa_mul_bt v32 ht
    by_cases eu : u = m
    · have e2 : m ||| 2 ^ v = m := qa_sb_as (qa_sb_or.mpr ⟨qa_sb_refl _, h1⟩) (qa_sb_l _ _)
      rw [eu, e2]
      omega
    · have := qa_ld_lt hw hl hu eu
      have := hw.2.1 u (2 ^ v) (qa_lt hu) v32
      omega
  · have := hl.2 t e1
    omega
theorem qx_set (hw : qa_wo w) (hs : qa_sz s) {a0 b0 : Nat} (h : qx_I (fun a b => a = a0 ∧ b = b0) w s e g l aP) (h1 : b0 < a0 → qa_P w s e g l (l a0 ||| l b0) a0 b0) (h2 : ∀ v, v < 5 → b0 = 32 + v → (l a0).testBit v = true → qa_Q w s e g l a0 v) : qx_I qx_no w s e g l aP := by
  constructor
  · intro a b hba ha
    rcases h.1 a b hba ha with ⟨z1, z2⟩ | z | z
    · rw [z1, z2]
      exact Or.inr (Or.inr (h1 (by omega)))
    · exact Or.inr (Or.inl z)
    · exact Or.inr (Or.inr z)
  · intro a v ha hv ht
    rcases h.2 a v ha hv ht with ⟨z1, z2⟩ | z | z
    · rw [z1] at ht ⊢
      exact Or.inr (Or.inr (h2 v hv z2.symm ht))
    · exact Or.inr (Or.inl z)
    · exact Or.inr (Or.inr z)
/-- the pair is taken out -/
theorem qx_I_del (h : qx_I qx_no w s e g l aP) (a0 b0 : Nat) (hb0 : b0 < 37) (he : e ≤ 32) : qx_I (fun a b => a = a0 ∧ b = b0) w s e g l (upd aP (a0 * 37 + b0) 0) := by
  constructor
  · intro a b hba ha
    by_cases ei : a * 37 + b = a0 * 37 + b0
    · exact Or.inl ⟨by omega, by omega⟩
    · rw [pk_un ei]
      rcases h.1 a b hba ha with z | z | z
      · exact absurd z id
      · exact Or.inr (Or.inl z)
      · exact Or.inr (Or.inr z)
  · intro a v ha hv ht
    by_cases ei : a * 37 + (32 + v) = a0 * 37 + b0
    · exact Or.inl ⟨by omega, by omega⟩
    · rw [pk_un ei]
      rcases h.2 a v ha hv ht with z | z | z
      · exact absurd z id
      · exact Or.inr (Or.inl z)
      · exact Or.inr (Or.inr z)
/-- what is not marked is settled -/
theorem qx_I_P {a0 b0 : Nat} (h : qx_I (fun a b => a = a0 ∧ b = b0) w s e g l aP) {a k : Nat} (ha : a < e) (hk : k < e) (he : e ≤ 32) (hne : k ≠ a) (hx : ¬ (a = a0 ∧ k = b0)) (hx' : ¬ (k = a0 ∧ a = b0)) (hp : aP (qx_ix a k) = 0) : qa_P w s e g l (l a ||| l k) a k := by
  unfold qx_ix at hp
  by_cases c : a < k
  · rw [if_pos ⟨by omega, c⟩] at hp
    rcases h.1 k a c hk with z | z | z
    · exact absurd z hx'
    · rw [hp] at z; exact absurd z (by decide)
    · rw [Nat.or_comm]; exact qa_P_s z
  · rw [if_neg (by omega)] at hp
    rcases h.1 a k (by omega) ha with z | z | z
    · exact absurd z hx
    · rw [hp] at z; exact absurd z (by decide)
    · exact z
/-- a covered pair is settled -/
theorem qx_I_cov (hw : qa_wo w) (hs : qa_sz s) (he : e ≤ 32) (hg : ∀ i, i < e → qa_in s (g i) ∧ qa_ld w (g i) (l i)) {a b : Nat} (ha : a < e) (hb : b < a ∨ ∃ v, v < 5 ∧ b = 32 + v ∧ (l a).testBit v = true)
    (h : qx_I (fun a' b' => a' = a ∧ b' = b) w s e g l aP) (hc : qx_CV e l aP (if b < 32 then l a ||| l b else l a) a b) : qx_I qx_no w s e g l aP := by
  have hls : ∀ i, i < e → l i < s := fun i hi => (hg i hi).1 _ (hg i hi).2.1
  obtain ⟨k, hk, n1, n2, hd, p1, p2⟩ := hc
  refine qx_set hw hs h ?_ ?_
  · intro hba
    rw [if_pos (by omega)] at hd
    refine qa_chain hw hs (hls a ha) (hls b (by omega)) hd (qx_I_P h ha hk he n1 (by omega) (by omega) p1) (qx_I_P h hk (by omega) he (by omega) (by omega) (by omega) p2)
  · intro v hv eb ht
    rw [if_neg (by omega)] at hd
    refine qa_chainQ hw hs hk (hls a ha) ht hd (qx_I_P h ha hk he n1 (by omega) (by omega) p1) (fun hkv => ?_)
    unfold qx_ix at p2
    rw [if_neg (by omega), eb] at p2
    rcases h.2 k v hk hv hkv with z | z | z
    · exact absurd z.1 n1
    · rw [p2] at z; exact absurd z (by decide)
    · exact z
end
/-! ===== the end of a completion ===== -/
/-- the status between steps -/
def qx_S (w : Nat → Nat) (s e : Nat) (g : Nat → Int32) (l : Nat → Nat) (k : Nat) (aF aO aP : Nat → Int32) : Prop :=
  qx_ds e l ∧ (∀ j, aP j = 0 ∨ aP j = 1) ∧ ((k = 0 ∧ ∃ i, i < e ∧ l i = 0) ∨ (qx_PL e l k aF aO aP ∧ qx_I qx_no w s e g l aP))
def qx_Z (e : Nat) (g : Nat → Int32) (x : Nat) : Prop := ∀ i, i < e → qa_ev (g i) x = false
section
variable {w : Nat → Nat} {s e : Nat} {g : Nat → Int32} {l : Nat → Nat} {aF aO aP : Nat → Int32}
theorem qx_S_G (hw : qa_wo w) (hs : qa_sz s) {B : Nat} (hB : ∀ a, a < 32 → w a < B) (he : e ≤ 32) (hg : ∀ i, i < e → qa_in s (g i) ∧ qa_ld w (g i) (l i)) (h : qx_S w s e g l 0 aF aO aP) {Z : Nat → Prop} (hZ : ∀ x, x < s → (qx_Z e g x ↔ Z x)) : qa_G w s e g l Z := by
  refine ⟨fun i hi => ⟨(hg i hi).1, (hg i hi).2, fun x hx hz => (hZ x hx).mpr hz i hi⟩, ?_⟩
  intro f m hf hv hm
  rcases h.2.2 with ⟨_, i, hi, h0⟩ | ⟨hPL, hI⟩
  · exact ⟨i, hi, by rw [h0]; exact qa_sb_0 m⟩
  · have np : ∀ a b, a < e → b < 37 → ¬ aP (a * 37 + b) = 1 := by
      intro a b ha hb hp
      obtain ⟨i, hi, _⟩ := hPL.2.1 a b ha hb hp
      omega
    have hP : ∀ a b, b < a → a < e → qa_P w s e g l (l a ||| l b) a b := by
      intro a b hba ha
      rcases hI.1 a b hba ha with z | z | z
      · exact absurd z id
      · exact absurd z (np a b ha (by omega))
      · exact z
    have hl32 : ∀ i, i < e → l i < 32 := fun i hi => qa_lt (hg i hi).2.1
    have hQ : ∀ a v, a < e → (l a).testBit v = true → qa_Q w s e g l a v := by
      intro a v ha ht
      have hv : v < 5 := by
        apply Classical.byContradiction
        intro hn
        have h1 := qa_sb_le (qa_2p.mpr ht)
        have h2 := hl32 a ha
        have h3 : 2 ^ 5 ≤ 2 ^ v := Nat.pow_le_pow_right (by decide) (by omega)
        omega
      rcases hI.2 a v ha hv ht with z | z | z
      · exact absurd z id
      · exact absurd z (np a (32 + v) ha (by omega))
      · exact z
    refine qa_buch hw hs hg hQ (fun a b ha hb => ?_) (2 * B) f ?_ m hm
    · rcases Nat.lt_trichotomy a b with z | z | z
      · rw [Nat.or_comm]; exact qa_P_s (hP b a z hb)
      · rw [z]; exact qa_P_r _ _
      · exact hP a b z ha
    · refine qa_ideal hw hs (fun i hi => (hg i hi).1) (fun i c hi hc => ?_) e (Nat.le_refl e) f hf (fun x hx hz => hv x hx ((hZ x hx).mp hz))
      have h1 := hB c (Nat.lt_of_lt_of_le hc hs.2.1)
      have h2 := hB (l i) (hl32 i hi)
      omega
end
end
section
/-! ===== adding pairs and elements ===== -/
section
variable {vc sz od rm wk gc bp bc cp ct sc ec pc : Int32} {aW aT aM aR aG aB aL aC aS aE aD aF aO aK aP : Nat → Int32} {n s e : Nat} {w : Nat → Nat} {l : Nat → Nat}
theorem wx_ap {post : SX → Prop} {k a b c : Nat} (hk : k < 656) (ha : a < 32) (hb : b < 37) (hc : c < 32) (h : post (vc, sz, od, rm, wk, gc, bp, bc, cp, ct, sc, ec, nI (k + 1), aW, aT, aM, aR, aG, aB, aL, aC, aS, aE, aD, upd aF k (nI a), upd aO k (nI b), upd aK k (aR c), upd aP (a * 37 + b) 1)) : wpX_addPair post (vc, sz, od, rm, wk, gc, bp, bc, cp, ct, sc, ec, nI k, aW, aT, aM, aR, aG, aB, aL, aC, aS, aE, aD, aF, aO, aK, aP) (nI a) (nI b) (nI c) := by
  have v1 : vp_in (nI k) 656 := vp_in_nI hk (by decide)
  have c1 : (nI k).toNatClampNeg = k := nI_clamp (by omega)
  refine br_t (nI_lt (b := 656) hk (by decide)) ⟨v1, nm_r (e' := upd aF k (nI a)) (by rw [c1]) ⟨v1, nm_r (e' := upd aO k (nI b)) (by rw [c1]) ⟨vp_in_nI hc (by decide), v1, nm_r (e' := upd aK k (aR c)) (by rw [c1, nI_clamp (by omega)]) (nm_r (nI_1 k) ⟨?_, nm_r (e' := upd aP (a * 37 + b) 1) ?_ h⟩)⟩⟩⟩
  · rw [qx_37]
    exact vp_in_nI (by omega) (by decide)
  · rw [qx_37, nI_clamp (by omega)]
    rfl
theorem qx_and0 {a m : Nat} (ha : a < 32) : (nI a &&& nI m) = 0 ↔ a &&& m = 0 := by
  have h1 : a &&& m ≤ a := Nat.and_le_left
  rw [nx_and, ← nI_0, nI_eq (by omega) (by omega)]
theorem qx_mulp {p : Int32} {v : Nat} (hv : v < 5) (h : p &&& (qx_mk (fun m => m.testBit v) 32 ^^^ (-1)) = 0) : qa_mul p (2 ^ v) = p := by
  refine qa_ind (P := fun q => qa_mul q (2 ^ v) = q) p (qa_mul_0 _) ?_
  intro q m hm hb ih
  rw [qa_mul_xor, qa_mul_mo hm, ih]
  have e1 : m.testBit v = true := by
    have h1 : bt (p &&& (qx_mk (fun m => m.testBit v) 32 ^^^ (-1))) m = false := by rw [h]; exact b_0 m
    rw [b_and, b_xor, qx_mk_bt _ 32 (Nat.le_refl _), b_m1 m hm, hb, decide_eq_true hm] at h1
    revert h1
    cases m.testBit v <;> simp
  rw [qa_sb_as (qa_sb_or.mpr ⟨qa_sb_refl m, qa_2p.mpr e1⟩) (qa_sb_l _ _)]
theorem wx_ae3 {post : SX → Prop} (hn : n ≤ 5) (hW : qx_W aW) {p : Int32} {m k0 : Nat} {aQ : Nat → Int32} (he : e < 32) (hm : m < 32) (hl : l e = m) (hk0 : k0 + 5 ≤ 656) (hmn : m < 2 ^ n)
    (H : ∀ (k : Nat) (aF aO aK aP : Nat → Int32), qx_PL (e + 1) l k aF aO aP → k ≤ k0 + 5 → (∀ j, j < e * 37 + 32 → aP j = aQ j) → (∀ u, u < 5 → m.testBit u = true → aP (e * 37 + (32 + u)) = 1 ∨ qa_mul p (2 ^ u) = p) → post (nI n, sz, od, rm, wk, gc, bp, bc, cp, ct, sc, ec, nI k, aW, aT, aM, aR, aG, aB, aL, aC, aS, aE, aD, aF, aO, aK, aP)) :
    ∀ d v, v + d = n → ∀ f, d < f → ∀ (k : Nat) (aF aO aK aP : Nat → Int32), qx_PL (e + 1) l k aF aO aP → k ≤ k0 + v → (∀ j, j < e * 37 + 32 → aP j = aQ j) → (∀ u, u < v → m.testBit u = true → aP (e * 37 + (32 + u)) = 1 ∨ qa_mul p (2 ^ u) = p) → wX_addElement_127 post p (nI e) (nI m) f (nI v) (nI n) sz od rm wk gc bp bc cp ct sc ec (nI k) aW aT aM aR aG aB aL aC aS aE aD aF aO aK aP := by
  intro d
  induction d with
  | zero =>
    intro v hv f hf k aF aO aK aP h1 h2 h3 h4
    obtain ⟨f, rfl⟩ : ∃ k, f = k + 1 := ⟨f - 1, by omega⟩
    have ev : v = n := by omega
    subst ev
    refine br_t (nI_le (by omega) (by omega)) (H k aF aO aK aP h1 (by omega) h3 fun u hu ht => h4 u ?_ ht)
    apply Classical.byContradiction
    intro hnu
    have h5 := qa_sb_le (qa_2p.mpr ht)
    have h6 : 2 ^ v ≤ 2 ^ u := Nat.pow_le_pow_right (by decide) (by omega)
    omega
  | succ d ih =>
    intro v hv f hf k aF aO aK aP h1 h2 h3 h4
    obtain ⟨f, rfl⟩ : ∃ k, f = k + 1 := ⟨f - 1, by omega⟩
    have hv5 : v < 5 := by omega
    have nx := fun h5 => ih (v + 1) (by omega) f (by omega) k aF aO aK aP h1 (by omega) h3 h5
    refine br_f (nI_ge (by omega) (by omega)) (qa_br0 (by omega) (fun hb => nm_r (nI_1 v) (nx ?_)) (fun hb => ⟨vp_in_nI hv5 (by decide), br_c (fun hz => nm_r (nI_1 v) (nx ?_)) (fun hz => ?_)⟩))
    · intro u hu ht
      by_cases eu : u = v
      · rw [qx_btn hm, ← eu, ht] at hb
        exact nomatch hb
      · exact h4 u (by omega) ht
    · intro u hu ht
      by_cases eu : u = v
      · rw [nI_clamp (by omega), hW v hv5] at hz
        rw [eu]
        exact Or.inr (qx_mulp hv5 hz)
      · exact h4 u (by omega) ht
    · rw [qx_btn hm] at hb
      have e32 : (32 : Int32) + nI v = nI (32 + v) := nI_add 32 v
      rw [e32]
      refine wx_ap (by omega) he (by omega) hm ?_
      refine nm_r (nI_1 v) (ih (v + 1) (by omega) f (by omega) (k + 1) _ _ _ _ (qx_PL_add h1 (by omega) (by omega) (Or.inr ⟨v, hv5, rfl, by rw [hl]; exact hb⟩)) (by omega) ?_ ?_)
      · intro j hj
        rw [pk_un (by omega)]
        exact h3 j hj
      · intro u hu ht
        by_cases eu : u = v
        · rw [eu, pk_us]
          exact Or.inl rfl
        · rw [pk_un (by omega)]
          exact h4 u (by omega) ht
theorem wx_ae2 {post : SX → Prop} (hn : n ≤ 5) (hW : qx_W aW) {p : Int32} {m k0 : Nat} {aQ : Nat → Int32} (he : e < 32) (hm : m < 32) (hl : l e = m) (hD : ∀ i, i < e → aD i = nI (l i) ∧ l i < 32) (hk0 : k0 + (e + 5) ≤ 656) (hmn : m < 2 ^ n)
    (H : ∀ (k : Nat) (aF aO aK aP : Nat → Int32), qx_PL (e + 1) l k aF aO aP → k ≤ k0 + (e + 5) → (∀ j, j < e * 37 → aP j = aQ j) → (∀ b, b < e → aP (e * 37 + b) = 1 ∨ l b &&& m = 0) → (∀ u, u < 5 → m.testBit u = true → aP (e * 37 + (32 + u)) = 1 ∨ qa_mul p (2 ^ u) = p) → post (nI n, sz, od, rm, wk, gc, bp, bc, cp, ct, sc, ec, nI k, aW, aT, aM, aR, aG, aB, aL, aC, aS, aE, aD, aF, aO, aK, aP)) :
    ∀ d b, b + d = e → ∀ f, d < f → ∀ (k : Nat) (aF aO aK aP : Nat → Int32), qx_PL (e + 1) l k aF aO aP → k ≤ k0 + b → (∀ j, j < e * 37 → aP j = aQ j) → (∀ c, c < b → aP (e * 37 + c) = 1 ∨ l c &&& m = 0) → wX_addElement_84 post p (nI e) (nI m) f (nI b) (nI n) sz od rm wk gc bp bc cp ct sc ec (nI k) aW aT aM aR aG aB aL aC aS aE aD aF aO aK aP := by
  intro d
  induction d with
  | zero =>
    intro b hb f hf k aF aO aK aP h1 h2 h3 h4
    obtain ⟨f, rfl⟩ : ∃ k, f = k + 1 := ⟨f - 1, by omega⟩
    refine br_t (nI_le (by omega) (by omega)) ⟨n + 1, wx_ae3 (k0 := k0 + e) (aQ := aP) hn hW he hm hl (by omega) hmn ?_ n 0 (by omega) (n + 1) (by omega) k aF aO aK aP h1 (by omega) (fun _ _ => rfl) (fun u hu => absurd hu (Nat.not_lt_zero u))⟩
    intro k' aF' aO' aK' aP' g1 g2 g3 g4
    refine H k' aF' aO' aK' aP' g1 (by omega) (fun j hj => ?_) (fun c hc => ?_) g4
    · rw [g3 j (by omega)]; exact h3 j hj
    · rw [g3 _ (by omega)]; exact h4 c (by omega)
  | succ d ih =>
    intro b hb f hf k aF aO aK aP h1 h2 h3 h4
    obtain ⟨f, rfl⟩ : ∃ k, f = k + 1 := ⟨f - 1, by omega⟩
    have hbe : b < e := by omega
    have vb : vp_in (nI b) 32 := vp_in_nI (by omega) (by decide)
    have eD : aD (nI b).toNatClampNeg = nI (l b) := by rw [nI_clamp (by omega)]; exact (hD b hbe).1
    have l32 := (hD b hbe).2
    refine br_f (nI_ge (by omega) (by omega)) ⟨vb, br_c (fun hz => nm_r (nI_1 b) ?_) (fun hz => ⟨vb, ?_⟩)⟩
    · rw [eD, qx_and0 l32] at hz
      refine ih (b + 1) (by omega) f (by omega) k aF aO aK aP h1 (by omega) h3 fun c hc => ?_
      by_cases ec : c = b
      · rw [ec]; exact Or.inr hz
      · exact h4 c (by omega)
    · rw [eD, qx_or]
      refine wx_ap (by omega) he (by omega) (qa_or32 l32 hm) ?_
      refine nm_r (nI_1 b) (ih (b + 1) (by omega) f (by omega) (k + 1) _ _ _ _ (qx_PL_add h1 (by omega) (by omega) (Or.inl hbe)) (by omega) ?_ ?_)
      · intro j hj
        rw [pk_un (by omega)]
        exact h3 j hj
      · intro c hc
        by_cases ec : c = b
        · rw [ec, pk_us]
          exact Or.inl rfl
        · rw [pk_un (by omega)]
          exact h4 c (by omega)
theorem wx_ae1 {post : SX → Prop} {p : Int32} {m : Nat} {aQ : Nat → Int32} (he : e < 32)
    (H : ∀ aP : Nat → Int32, (∀ j, aP j = if e * 37 ≤ j ∧ j < e * 37 + 37 then 0 else aQ j) → ∃ f, wX_addElement_84 post p (nI e) (nI m) f 0 vc sz od rm wk gc bp bc cp ct sc ec pc aW aT aM aR aG aB aL aC aS aE aD aF aO aK aP) :
    ∀ d c, c + d = 37 → ∀ f, d < f → ∀ aP : Nat → Int32, (∀ j, aP j = if e * 37 ≤ j ∧ j < e * 37 + c then 0 else aQ j) → wX_addElement_55 post p (nI e) (nI m) vc sz od rm wk gc bp bc cp ct sc ec pc f (nI c) aW aT aM aR aG aB aL aC aS aE aD aF aO aK aP := by
  intro d
  induction d with
  | zero =>
    intro c hc f hf aP h
    obtain ⟨f, rfl⟩ : ∃ k, f = k + 1 := ⟨f - 1, by omega⟩
    have ec : c = 37 := by omega
    subst ec
    exact br_t (nI_le (a := 37) (by omega) (by omega)) (H aP h)
  | succ d ih =>
    intro c hc f hf aP h
    obtain ⟨f, rfl⟩ : ∃ k, f = k + 1 := ⟨f - 1, by omega⟩
    refine br_f (nI_ge (b := 37) (by omega) (by omega)) ⟨?_, nm_r (e' := upd aP (e * 37 + c) 0) ?_ (nm_r (nI_1 c) (ih (c + 1) (by omega) f (by omega) _ ?_))⟩
    · rw [qx_37]
      exact vp_in_nI (by omega) (by decide)
    · rw [qx_37, nI_clamp (by omega)]
      rfl
    · intro j
      by_cases ej : j = e * 37 + c
      · rw [ej, pk_us, if_pos (by omega)]
      · rw [pk_un ej, h j]
        by_cases c1 : e * 37 ≤ j ∧ j < e * 37 + c
        · rw [if_pos c1, if_pos (by omega)]
        · rw [if_neg c1, if_neg (by omega)]
theorem wx_ae {post : SX → Prop} (hn : n ≤ 5) (hs : s = 2 ^ n) (hW : qx_W aW) (hw : qa_wo w) (hA : qa_As w s aM) (he : e < 32) (hE : qx_E w s e aE aD l) {k : Nat} (hPL : qx_PL e l k aF aO aP) (hk : k + (e + 5) ≤ 656) {p : Int32} {m : Nat} (hp : qa_in s p) (hl : qa_ld w p m)
    (h0 : m = 0 → post (nI n, nI s, od, rm, wk, gc, bp, bc, cp, ct, sc, nI (e + 1), 0, aW, aT, aM, aR, aG, aB, aL, aC, aS, upd aE e p, upd aD e (nI m), aF, aO, aK, aP))
    (h1 : ¬ m = 0 → ∀ (k' : Nat) (aF' aO' aK' aP' : Nat → Int32), qx_PL (e + 1) (qx_l l e m) k' aF' aO' aP' → k' ≤ k + (e + 5) → (∀ a b, a < e → b < 37 → aP' (a * 37 + b) = aP (a * 37 + b)) → (∀ b, b < e → aP' (e * 37 + b) = 1 ∨ l b &&& m = 0) → (∀ v, v < 5 → m.testBit v = true → aP' (e * 37 + (32 + v)) = 1 ∨ qa_mul p (2 ^ v) = p) → post (nI n, nI s, od, rm, wk, gc, bp, bc, cp, ct, sc, nI (e + 1), nI k', aW, aT, aM, aR, aG, aB, aL, aC, aS, upd aE e p, upd aD e (nI m), aF', aO', aK', aP')) :
    wpX_addElement post (nI n, nI s, od, rm, wk, gc, bp, bc, cp, ct, sc, nI e, nI k, aW, aT, aM, aR, aG, aB, aL, aC, aS, aE, aD, aF, aO, aK, aP) p := by
  have m32 := qa_lt hl.1
  have ms := hp m hl.1
  have hz : qa_sz s := by rw [hs]; exact qa_sz_n hn
  have ve : vp_in (nI e) 32 := vp_in_nI he (by decide)
  have c1 : (nI e).toNatClampNeg = e := nI_clamp (by omega)
  refine br_t (nI_lt (b := 32) he (by decide)) (wx_lo hw hz.2.1 hA hp hl ⟨ve, nm_r (e' := upd aE e p) (by rw [c1]) ⟨ve, nm_r (e' := upd aD e (nI m)) (by rw [c1]) (nm_r (nI_1 e) (br_c (fun z => ?_) (fun z => ?_)))⟩⟩)
  · exact h0 ((nI_eq (by omega) (by omega)).mp z)
  · have zm : ¬ m = 0 := fun z2 => z (by rw [z2]; rfl)
    refine ⟨38, wx_ae1 (aQ := aP) he ?_ 37 0 (by omega) 38 (by omega) aP (fun j => (if_neg (by omega)).symm)⟩
    intro aP1 hP1
    refine ⟨e + 1, wx_ae2 (l := qx_l l e m) (k0 := k) (aQ := aP1) hn hW he m32 (qx_l_t l e m) ?_ hk (by omega) ?_ e 0 (by omega) (e + 1) (by omega) k aF aO aK aP1 (qx_PL_row hPL hP1) (by omega) (fun _ _ => rfl) (fun c hc => absurd hc (Nat.not_lt_zero c))⟩
    · intro i hi
      rw [pk_un (by omega), qx_l_n l hi]
      exact ⟨(hE.2 i hi).1, qx_E32 hE hi⟩
    · intro k' aF' aO' aK' aP' g1 g2 g3 g4 g5
      refine h1 zm k' aF' aO' aK' aP' g1 g2 (fun a b ha hb => ?_) (fun b hb => ?_) g5
      · rw [g3 _ (by omega), hP1, if_neg (by omega)]
      · have := g4 b hb
        rw [qx_l_n l hb] at this
        exact this
end
end
section
/-! ===== a polynomial is reduced and added ===== -/
section
variable {vc sz od rm wk gc bp bc cp ct sc ec pc : Int32} {aW aT aM aR aG aB aL aC aS aE aD aF aO aK aP : Nat → Int32} {n s e : Nat} {w : Nat → Nat} {l : Nat → Nat}
theorem qx_Z_add {g : Nat → Int32} {q r : Int32} {t : Nat} (hs : qa_sz s) (hV : qa_V w s e g l t (q ^^^ r)) (x : Nat) : qx_Z (e + 1) (upd g e r) x ↔ qx_Z e g x ∧ qa_ev q x = false := by
  have key : qx_Z e g x → qa_ev q x = qa_ev r x := by
    intro hz
    have h1 := qa_V_ev hs hz hV
    rw [qa_ev_xor] at h1
    revert h1
    cases qa_ev q x <;> cases qa_ev r x <;> simp
  constructor
  · intro h
    have hz : qx_Z e g x := fun i hi => by
      have := h i (by omega)
      rw [pk_un (by omega)] at this
      exact this
    refine ⟨hz, ?_⟩
    rw [key hz]
    have := h e (by omega)
    rw [pk_us] at this
    exact this
  · intro ⟨hz, hq⟩ i hi
    by_cases ei : i = e
    · rw [ei, pk_us, ← key hz]; exact hq
    · rw [pk_un ei]; exact hz i (by omega)
theorem qx_E_add {aE aD : Nat → Int32} (hE : qx_E w s e aE aD l) (he : e < 32) {r : Int32} {m : Nat} (hr : qa_in s r) (hl : qa_ld w r m) : qx_E w s (e + 1) (upd aE e r) (upd aD e (nI m)) (qx_l l e m) := by
  refine ⟨by omega, fun i hi => ?_⟩
  by_cases ei : i = e
  · rw [ei, pk_us, pk_us, qx_l_t]
    exact ⟨rfl, hr, hl⟩
  · rw [pk_un ei, pk_un ei, qx_l_n l (by omega)]
    exact hE.2 i (by omega)
theorem wx_na {P1 : Prop} {P2 : SX → Prop} {X : Nat → Nat → Prop} (hn : n ≤ 5) (hs : s = 2 ^ n) (hW : qx_W aW) (hw : qa_wo w) (hA : qa_As w s aM) (hE : qx_E w s e aE aD l) (hds : qx_ds e l) {k : Nat} (hk : k ≤ qx_tr e)
    (hb : ∀ j, aP j = 0 ∨ aP j = 1) (hI : (∃ i, i < e ∧ l i = 0) ∨ (qx_PL e l k aF aO aP ∧ qx_I X w s e aE l aP)) {q : Int32} (hq : qa_in s q) {t : Nat} (ht : ∀ m, bt q m = true → w m < t)
    (H0 : qa_V w s e aE l t q → P1)
    (H1 : ∀ r, qx_E w s (e + 1) (upd aE e r) (upd aD e (nI 0)) (qx_l l e 0) → qx_ds (e + 1) (qx_l l e 0) → (∀ x, qx_Z (e + 1) (upd aE e r) x ↔ qx_Z e aE x ∧ qa_ev q x = false) → P2 (nI n, nI s, od, rm, wk, gc, bp, bc, cp, ct, sc, nI (e + 1), 0, aW, aT, aM, aR, aG, aB, aL, aC, aS, upd aE e r, upd aD e (nI 0), aF, aO, aK, aP))
    (H2 : ∀ (r : Int32) (m k' : Nat) (aF' aO' aK' aP' : Nat → Int32), qx_E w s (e + 1) (upd aE e r) (upd aD e (nI m)) (qx_l l e m) → qx_ds (e + 1) (qx_l l e m) → (∀ x, qx_Z (e + 1) (upd aE e r) x ↔ qx_Z e aE x ∧ qa_ev q x = false) → qx_PL (e + 1) (qx_l l e m) k' aF' aO' aP' → qx_I X w s (e + 1) (upd aE e r) (qx_l l e m) aP' → k' ≤ k + (e + 5) → qa_V w s (e + 1) (upd aE e r) (qx_l l e m) t q → P2 (nI n, nI s, od, rm, wk, gc, bp, bc, cp, ct, sc, nI (e + 1), nI k', aW, aT, aM, aR, aG, aB, aL, aC, aS, upd aE e r, upd aD e (nI m), aF', aO', aK', aP')) :
    wpX_normalForm (fun r => ((r = 0 → P1) ∧ (¬ r = 0 → wpX_addElement P2 (nI n, nI s, od, rm, wk, gc, bp, bc, cp, ct, sc, nI e, nI k, aW, aT, aM, aR, aG, aB, aL, aC, aS, aE, aD, aF, aO, aK, aP) r))) (nI n, nI s, od, rm, wk, gc, bp, bc, cp, ct, sc, nI e, nI k, aW, aT, aM, aR, aG, aB, aL, aC, aS, aE, aD, aF, aO, aK, aP) q := by
  have hz : qa_sz s := by rw [hs]; exact qa_sz_n hn
  obtain ⟨r, ⟨r1, r2, r3⟩, hr⟩ := wx_nf (od := od) (rm := rm) (wk := wk) (gc := gc) (bp := bp) (bc := bc) (cp := cp) (ct := ct) (sc := sc) (aW := aW) (aT := aT) (aM := aM) (aR := aR) (aG := aG) (aB := aB) (aL := aL) (aC := aC) (aS := aS) (aE := aE) (aD := aD) (aF := aF) (aO := aO) (aK := aK) (aP := aP) (pc := nI k) hn hs hW hw hA hE hq
  refine hr _ ?_
  have hV := r3 t ht
  refine br_c (fun hz0 => ?_) (fun hz0 => ?_)
  · rw [hz0, qa_x0] at hV
    exact H0 hV
  · obtain ⟨m, hm⟩ := qa_ld_ex w hz0
    have hir := r2 m hm.1
    have m32 := qa_lt hm.1
    have he : e < 32 := qx_ds_lt hds (fun i hi => qx_E32 hE hi) m32 hir
    have hg : ∀ i, i < e → qa_in s (aE i) ∧ qa_ld w (aE i) (l i) := fun i hi => ⟨(hE.2 i hi).2.1, (hE.2 i hi).2.2⟩
    have hZ : ∀ x, qx_Z (e + 1) (upd aE e r) x ↔ qx_Z e aE x ∧ qa_ev q x = false := qx_Z_add hz hV
    have hE' := qx_E_add hE he r1 hm
    have hds' := qx_ds_add hds hir
    rcases hI with ⟨i, hi, hi0⟩ | ⟨hPL, hI⟩
    · have := hir i hi
      rw [hi0] at this
      exact absurd (qa_sb_0 m) this
    · have htr := qx_tr656 e he
      have htr2 : qx_tr (e + 1) = qx_tr e + (e + 5) := rfl
      have wm : w m < t := by
        cases e1 : bt q m
        · exact qa_V_bd hw hz (fun i hi => (hg i hi).2) hV m (by rw [b_xor, e1, hm.1]; rfl)
        · exact ht m e1
      refine wx_ae hn hs hW hw hA he hE hPL (by omega) r1 hm (fun em => ?_) (fun em k' aF' aO' aK' aP' g1 g2 g3 g4 g5 => ?_)
      · subst em
        exact H1 r hE' hds' hZ
      · refine H2 r m k' aF' aO' aK' aP' hE' hds' hZ g1 (qx_I_add hw hz hg hI r1 hm g3 g4 g5 he) g2 ?_
        have v1 := qa_V_ext (e' := e + 1) (g' := upd aE e r) (l' := qx_l l e m) (by omega) (fun i hi => pk_un (by omega)) (fun i hi => qx_l_n l hi) hV
        have v2 := qa_V_g (w := w) (s := s) (e := e + 1) (g := upd aE e r) (l := qx_l l e m) (t := t) (i := e) (c := 0) (by omega) hz.1 (by rw [qx_l_t, qa_wo_0 hw]; omega)
        rw [pk_us, qa_mul_1] at v2
        have v3 := qa_V_x v1 v2
        rw [qa_xk] at v3
        exact v3
/-! ===== one pair ===== -/
theorem wx_tp {post : SX → Prop} (hn : n ≤ 5) (hs : s = 2 ^ n) (hW : qx_W aW) (hw : qa_wo w) (hA : qa_As w s aM) (hE : qx_E w s e aE aD l) (hds : qx_ds e l) {k : Nat} (hk : k + 1 ≤ qx_tr e)
    (hPL : qx_PL e l (k + 1) aF aO aP) (hI : qx_I qx_no w s e aE l aP)
    (H : ∀ (e' k' : Nat) (l' : Nat → Nat) (aE' aD' aF' aO' aK' aP' : Nat → Int32), qx_E w s e' aE' aD' l' → qx_S w s e' aE' l' k' aF' aO' aP' → k' + qx_tr e ≤ k + qx_tr e' → (∀ x, qx_Z e' aE' x ↔ qx_Z e aE x) → post (nI n, nI s, od, rm, wk, gc, bp, bc, cp, ct, sc, nI e', nI k', aW, aT, aM, aR, aG, aB, aL, aC, aS, aE', aD', aF', aO', aK', aP')) :
    wpX_treatPair post (nI n, nI s, od, rm, wk, gc, bp, bc, cp, ct, sc, nI e, nI (k + 1), aW, aT, aM, aR, aG, aB, aL, aC, aS, aE, aD, aF, aO, aK, aP) := by
  have hz : qa_sz s := by rw [hs]; exact qa_sz_n hn
  have he := hE.1
  have hg : ∀ i, i < e → qa_in s (aE i) ∧ qa_ld w (aE i) (l i) := fun i hi => ⟨(hE.2 i hi).2.1, (hE.2 i hi).2.2⟩
  have hD : ∀ i, i < e → aD i = nI (l i) ∧ l i < 32 := fun i hi => ⟨(hE.2 i hi).1, qx_E32 hE hi⟩
  have htr := qx_tr_le e he
  have key : ∀ d j, j + d = k + 1 → ∀ f, d < f → ∀ i, i < k + 1 → wX_treatPair_4 post (nI n) (nI s) od rm wk gc bp bc cp ct sc (nI e) (nI (k + 1)) aW aT aM aR aG aB aL aC aS aE aD aF aO aK aP f (nI i) (nI j) := by
    intro d
    induction d with
    | zero =>
      intro j hj f hf i hi
      obtain ⟨f, rfl⟩ : ∃ k, f = k + 1 := ⟨f - 1, by omega⟩
      obtain ⟨a, b, hF, hO, ha, hb⟩ := hPL.1 i hi
      have hb37 : b < 37 := by
        rcases hb with hb | ⟨v, hv, hb, _⟩ <;> omega
      have c1 : (nI i).toNatClampNeg = i := nI_clamp (by omega)
      have c2 : (nI k).toNatClampNeg = k := nI_clamp (by omega)
      have vi : vp_in (nI i) 656 := vp_in_nI (by omega) (by decide)
      have vk : vp_in (nI k) 656 := vp_in_nI (by omega) (by decide)
      have hPL' := qx_PL_del hPL hi hF hO (by omega) hb37 he
      have hI' := qx_I_del hI a b hb37 he
      refine br_t (nI_le (by omega) (by omega)) ⟨vi, nm_r (e' := nI a) (by rw [c1]; exact hF) ⟨vi, nm_r (e' := nI b) (by rw [c1]; exact hO) (nm_r (nI_pred k) ⟨vk, vi, nm_r (e' := upd aF i (aF k)) (by rw [c1, c2]) ⟨vk, vi, nm_r (e' := upd aO i (aO k)) (by rw [c1, c2]) ⟨vk, vi, nm_r (e' := upd aK i (aK k)) (by rw [c1, c2]) ⟨?_, nm_r (e' := upd aP (a * 37 + b) 0) ?_ ?_⟩⟩⟩⟩)⟩⟩
      · rw [qx_37]
        exact vp_in_nI (by omega) (by decide)
      · rw [qx_37, nI_clamp (by omega)]
        rfl
      · obtain ⟨r, hr, hcw⟩ := wx_cv (od := od) (rm := rm) (wk := wk) (gc := gc) (bp := bp) (bc := bc) (cp := cp) (ct := ct) (sc := sc) (aW := aW) (aT := aT) (aM := aM) (aR := aR) (aG := aG) (aB := aB) (aL := aL) (aC := aC) (aS := aS) (aE := aE) (aD := aD) (vc := nI n) (sz := nI s) (pc := nI k) (aF := upd aF i (aF k)) (aO := upd aO i (aO k)) (aK := upd aK i (aK k)) (aP := upd aP (a * 37 + b) 0) he hD hPL'.2.2 ha (by
          rcases hb with hb | ⟨v, hv, hb, _⟩
          · exact Or.inl hb
          · exact Or.inr (by omega))
        refine hcw _ ?_
        refine br_c (fun hr0 => ?_) (fun hr0 => ?_)
        · rcases hb with hba | ⟨v, hv, hbv, hbt⟩
          · refine wx_sp2 hn hs hW hE ha hba ?_
            have hms := hz.2.2 _ _ (qx_Es hE ha) (qx_Es hE (show b < e by omega))
            have qin : qa_in s (qa_mul (aE a) (qa_df (l a ||| l b) (l a)) ^^^ qa_mul (aE b) (qa_df (l a ||| l b) (l b))) := qa_in_xor (qa_mul_in hz (hg a ha).1 (Nat.lt_of_le_of_lt (qa_df_le _ _) hms)) (qa_mul_in hz (hg b (by omega)).1 (Nat.lt_of_le_of_lt (qa_df_le _ _) hms))
            have hms32 := Nat.lt_of_lt_of_le hms hz.2.1
            have qz : ∀ x, qx_Z e aE x → qa_ev (qa_mul (aE a) (qa_df (l a ||| l b) (l a)) ^^^ qa_mul (aE b) (qa_df (l a ||| l b) (l b))) x = false := by
              intro x hx
              rw [qa_ev_xor, qa_mul_ev _ (qa_dn_lt hms32), qa_mul_ev _ (qa_dn_lt hms32), hx a ha, hx b (by omega), Bool.and_false, Bool.and_false]
              rfl
            refine wx_na hn hs hW hw hA hE hds (by omega) hPL'.2.2 (Or.inr ⟨hPL', hI'⟩) qin (qx_sp_bd hw hg ha (by omega)) (fun hV => ?_) (fun r hE1 hds1 hZ1 => ?_) (fun r m k' aF' aO' aK' aP' hE1 hds1 hZ1 hPL1 hI1 hk1 hV1 => ?_)
            · exact H e k l aE aD _ _ _ _ hE ⟨hds, hPL'.2.2, Or.inr ⟨hPL', qx_set hw hz hI' (fun _ => hV) (fun v _ z _ => by omega)⟩⟩ (Nat.le_refl _) (fun x => Iff.rfl)
            · exact H (e + 1) 0 _ _ _ _ _ _ _ hE1 ⟨hds1, hPL'.2.2, Or.inl ⟨rfl, e, by omega, qx_l_t l e 0⟩⟩ (by have : qx_tr (e + 1) = qx_tr e + (e + 5) := rfl; omega) (fun x => by rw [hZ1 x]; exact ⟨fun z => z.1, fun z => ⟨z, qz x z⟩⟩)
            · refine H (e + 1) k' _ _ _ _ _ _ _ hE1 ⟨hds1, hPL1.2.2, Or.inr ⟨hPL1, qx_set hw hz hI1 (fun _ => ?_) (fun v _ z _ => by omega)⟩⟩ (by have : qx_tr (e + 1) = qx_tr e + (e + 5) := rfl; omega) (fun x => by rw [hZ1 x]; exact ⟨fun z => z.1, fun z => ⟨z, qz x z⟩⟩)
              unfold qa_P
              rw [qx_l_n l ha, qx_l_n l (show b < e by omega), pk_un (show a ≠ e by omega), pk_un (show b ≠ e by omega)]
              exact hV1
          · subst hbv
            have h1 := qa_2p.mpr hbt
            have hvs : 2 ^ v < s := Nat.lt_of_le_of_lt (qa_sb_le h1) (qx_Es hE ha)
            have v32 := Nat.lt_of_lt_of_le hvs hz.2.1
            refine wx_sp1 hn hs hW he ha hv hvs ?_
            have qin : qa_in s (qa_mul (aE a) (2 ^ v) ^^^ aE a) := qa_in_xor (qa_mul_in hz (hg a ha).1 hvs) (hg a ha).1
            have qz : ∀ x, qx_Z e aE x → qa_ev (qa_mul (aE a) (2 ^ v) ^^^ aE a) x = false := by
              intro x hx
              rw [qa_ev_xor, qa_mul_ev _ v32, hx a ha, Bool.and_false]
              rfl
            have hpos := hw.2.2.2 (2 ^ v) v32 (Nat.ne_of_gt (Nat.two_pow_pos v))
            have hQ : ∀ {e' : Nat} {g' : Nat → Int32} {l' : Nat → Nat}, a < e' → g' a = aE a → l' a = l a → qa_V w s e' g' l' (w (l a) + w (2 ^ v)) (qa_mul (aE a) (2 ^ v) ^^^ aE a) → qa_Q w s e' g' l' a v := by
              intro e' g' l' ha' eg el hV
              have v2 := qa_V_g (w := w) (s := s) (e := e') (g := g') (l := l') (t := w (l a) + w (2 ^ v)) (i := a) (c := 0) ha' hz.1 (by rw [el, qa_wo_0 hw]; omega)
              rw [eg, qa_mul_1] at v2
              have v3 := qa_V_x hV v2
              rw [qa_xk] at v3
              unfold qa_Q
              rw [eg, el]
              exact v3
            refine wx_na hn hs hW hw hA hE hds (by omega) hPL'.2.2 (Or.inr ⟨hPL', hI'⟩) qin (qx_sq_bd hw (hg a ha).2 hbt) (fun hV => ?_) (fun r hE1 hds1 hZ1 => ?_) (fun r m k' aF' aO' aK' aP' hE1 hds1 hZ1 hPL1 hI1 hk1 hV1 => ?_)
            · refine H e k l aE aD _ _ _ _ hE ⟨hds, hPL'.2.2, Or.inr ⟨hPL', qx_set hw hz hI' (fun z => by omega) (fun u _ z _ => ?_)⟩⟩ (Nat.le_refl _) (fun x => Iff.rfl)
              have eu : u = v := by omega
              rw [eu]
              exact hQ ha rfl rfl hV
            · exact H (e + 1) 0 _ _ _ _ _ _ _ hE1 ⟨hds1, hPL'.2.2, Or.inl ⟨rfl, e, by omega, qx_l_t l e 0⟩⟩ (by have : qx_tr (e + 1) = qx_tr e + (e + 5) := rfl; omega) (fun x => by rw [hZ1 x]; exact ⟨fun z => z.1, fun z => ⟨z, qz x z⟩⟩)
            · refine H (e + 1) k' _ _ _ _ _ _ _ hE1 ⟨hds1, hPL1.2.2, Or.inr ⟨hPL1, qx_set hw hz hI1 (fun z => by omega) (fun u _ z _ => ?_)⟩⟩ (by have : qx_tr (e + 1) = qx_tr e + (e + 5) := rfl; omega) (fun x => by rw [hZ1 x]; exact ⟨fun z => z.1, fun z => ⟨z, qz x z⟩⟩)
              have eu : u = v := by omega
              rw [eu]
              exact hQ (by omega) (pk_un (by omega)) (qx_l_n l ha) hV1
        · rcases hr with hr | ⟨_, hr⟩
          · exact absurd hr hr0
          · exact H e k l aE aD _ _ _ _ hE ⟨hds, hPL'.2.2, Or.inr ⟨hPL', qx_I_cov hw hz he hg ha hb hI' hr⟩⟩ (Nat.le_refl _) (fun x => Iff.rfl)
    | succ d ih =>
      intro j hj f hf i hi
      obtain ⟨f, rfl⟩ : ∃ k, f = k + 1 := ⟨f - 1, by omega⟩
      have vi : vp_in (nI i) 656 := vp_in_nI (by omega) (by decide)
      have vj : vp_in (nI j) 656 := vp_in_nI (by omega) (by decide)
      exact br_f (nI_ge (by omega) (by omega)) ⟨vj, vi, br_c (fun _ => nm_r (nI_1 j) (ih (j + 1) (by omega) f (by omega) i hi)) (fun _ => nm_r (nI_1 j) (ih (j + 1) (by omega) f (by omega) j (by omega)))⟩
  exact ⟨k + 1, key k 1 (by omega) (k + 1) (by omega) 0 (by omega)⟩
end
end
section
/-! ===== comparing monomials ===== -/
def qx_hi (d : Nat) : Nat → Nat
  | 0 => 0
  | k + 1 => if d.testBit k then 2 ^ k else qx_hi d k
theorem qx_f1a : ∀ a, a < 32 → ∀ b, b < 32 → qa_p5 a ≠ qa_p5 b → (qa_w0 1 b < qa_w0 1 a ↔ qa_p5 b < qa_p5 a) := by decide +kernel
theorem qx_f1b : ∀ a, a < 32 → ∀ b, b < 32 → qa_p5 a ≠ qa_p5 b → (qa_w0 2 b < qa_w0 2 a ↔ qa_p5 b < qa_p5 a) := by decide +kernel
theorem qx_f1 (o : Nat) (ho : o < 3) (h0 : o ≠ 0) (a : Nat) (ha : a < 32) (b : Nat) (hb : b < 32) (h : qa_p5 a ≠ qa_p5 b) : qa_w0 o b < qa_w0 o a ↔ qa_p5 b < qa_p5 a := by
  have : o = 1 ∨ o = 2 := by omega
  rcases this with rfl | rfl
  · exact qx_f1a a ha b hb h
  · exact qx_f1b a ha b hb h
theorem qx_f2a : ∀ a, a < 32 → ∀ b, b < 32 → a ≠ b → ((nI a &&& ((nI a ^^^ nI b) &&& (-(nI a ^^^ nI b)))) = 0 ↔ ¬ qa_w0 0 b < qa_w0 0 a) := by decide +kernel
theorem qx_f2b : ∀ a, a < 32 → ∀ b, b < 32 → (a ≠ b ∧ qa_p5 a = qa_p5 b) → ((nI a &&& ((nI a ^^^ nI b) &&& (-(nI a ^^^ nI b)))) = 0 ↔ ¬ qa_w0 1 b < qa_w0 1 a) := by decide +kernel
theorem qx_f2 (o : Nat) (ho : o < 2) (a : Nat) (ha : a < 32) (b : Nat) (hb : b < 32) (hne : a ≠ b) (h : o = 0 ∨ qa_p5 a = qa_p5 b) : (nI a &&& ((nI a ^^^ nI b) &&& (-(nI a ^^^ nI b)))) = 0 ↔ ¬ qa_w0 o b < qa_w0 o a := by
  have : o = 0 ∨ o = 1 := by omega
  rcases this with rfl | rfl
  · exact qx_f2a a ha b hb hne
  · rcases h with h | h
    · exact absurd h (by decide)
    · exact qx_f2b a ha b hb ⟨hne, h⟩
theorem qx_f3 : ∀ a, a < 32 → ∀ b, b < 32 → a ≠ b → qa_p5 a = qa_p5 b → ((nI a &&& nI (qx_hi (a ^^^ b) 5)) = 0 ↔ qa_w0 2 b < qa_w0 2 a) := by decide +kernel
theorem qx_f4a : ∀ k, k < 5 → ∀ a, a < 32 → ∀ b, b < 32 → (a ^^^ b) % 2 ^ (k + 1) = 2 ^ k → (qa_w0 0 b < qa_w0 0 a ↔ a.testBit k = true) := by decide +kernel
theorem qx_f4b : ∀ k, k < 5 → ∀ a, a < 32 → ∀ b, b < 32 → (qa_p5 a = qa_p5 b ∧ (a ^^^ b) % 2 ^ (k + 1) = 2 ^ k) → (qa_w0 1 b < qa_w0 1 a ↔ a.testBit k = true) := by decide +kernel
theorem qx_f4 (o : Nat) (ho : o < 2) (k : Nat) (hk : k < 5) (a : Nat) (ha : a < 32) (b : Nat) (hb : b < 32) (h : o = 0 ∨ qa_p5 a = qa_p5 b) (h1 : (a ^^^ b) % 2 ^ (k + 1) = 2 ^ k) : qa_w0 o b < qa_w0 o a ↔ a.testBit k = true := by
  have : o = 0 ∨ o = 1 := by omega
  rcases this with rfl | rfl
  · exact qx_f4a k hk a ha b hb h1
  · rcases h with h | h
    · exact absurd h (by decide)
    · exact qx_f4b k hk a ha b hb ⟨h, h1⟩
theorem qx_f5 : ∀ k, k < 5 → ∀ a, a < 32 → ∀ b, b < 32 → (qa_p5 a = qa_p5 b ∧ (a ^^^ b) / 2 ^ k = 1) → (qa_w0 2 b < qa_w0 2 a ↔ a.testBit k = false) := by decide +kernel
theorem qx_f6 : ∀ a, a < 32 → ∀ b, b < 32 → a ^^^ b = 0 → a = b := by decide +kernel
theorem qx_x32 {a b : Nat} (ha : a < 32) (hb : b < 32) : a ^^^ b < 32 := Nat.xor_lt_two_pow (n := 5) ha hb
/-- 1 or 0 -/
def qx_b (P : Prop) [Decidable P] : Int32 := if P then 1 else 0
theorem qx_bt {P : Prop} [Decidable P] (h : P) : qx_b P = 1 := if_pos h
theorem qx_bf {P : Prop} [Decidable P] (h : ¬ P) : qx_b P = 0 := if_neg h
theorem qx_b01 (P : Prop) [Decidable P] : qx_b P = 0 ∨ qx_b P = 1 := by
  by_cases h : P
  · exact Or.inr (qx_bt h)
  · exact Or.inl (qx_bf h)
section
variable {vc sz od rm wk gc bp bc cp ct sc ec pc : Int32} {aW aT aM aR aG aB aL aC aS aE aD aF aO aK aP : Nat → Int32} {n s o : Nat}
theorem wx_ig1 {post : Int32 → Prop} {a b : Nat} (ha : a < 32) (hb : b < 32) (hne : a ≠ b) (hp : qa_p5 a = qa_p5 b) (h : post (qx_b (qa_w0 2 b < qa_w0 2 a))) :
    ∀ d k, k + d = 5 → ∀ f, d < f → wX_isGreater_63 post (nI a) (nI (a ^^^ b)) vc sz od rm wk gc bp bc cp ct sc ec pc aW aT aM aR aG aB aL aC aS aE aD aF aO aK aP f (nI (qx_hi (a ^^^ b) k)) (nI k) := by
  intro d
  induction d with
  | zero =>
    intro k hk f hf
    obtain ⟨f, rfl⟩ : ∃ k, f = k + 1 := ⟨f - 1, by omega⟩
    have ek : k = 5 := by omega
    subst ek
    have h3 := qx_f3 a ha b hb hne hp
    refine br_t (nI_le (a := 5) (by omega) (by omega)) (br_c (fun z => ?_) (fun z => ?_))
    · rw [qx_bt (h3.mp z)] at h; exact h
    · rw [qx_bf (fun y => z (h3.mpr y))] at h; exact h
  | succ d ih =>
    intro k hk f hf
    obtain ⟨f, rfl⟩ : ∃ k, f = k + 1 := ⟨f - 1, by omega⟩
    have nx := ih (k + 1) (by omega) f (by omega)
    have hk5 : k < 5 := by omega
    refine br_f (nI_ge (b := 5) (by omega) (by omega)) (qa_br0 (by omega) (fun hz => nm_r (nI_1 k) ?_) (fun hz => nm_r (e' := nI (2 ^ k)) (qx_1v k hk5).1 (nm_r (nI_1 k) ?_)))
    · rw [qx_btn (qx_x32 ha hb)] at hz
      rw [show qx_hi (a ^^^ b) (k + 1) = qx_hi (a ^^^ b) k from if_neg (by rw [hz]; decide)] at nx
      exact nx
    · rw [qx_btn (qx_x32 ha hb)] at hz
      rw [show qx_hi (a ^^^ b) (k + 1) = 2 ^ k from if_pos hz] at nx
      exact nx
theorem wx_ig2 {post : Int32 → Prop} (ho : o < 3) {a b : Nat} (ha : a < 32) (hb : b < 32) (hne : a ≠ b) (hp : o = 0 ∨ qa_p5 a = qa_p5 b) (h : post (qx_b (qa_w0 o b < qa_w0 o a))) : wX_isGreater_45 post (nI a) (nI b) vc sz (nI o) rm wk gc bp bc cp ct sc ec pc aW aT aM aR aG aB aL aC aS aE aD aF aO aK aP := by
  refine nm_r (e' := nI (a ^^^ b)) (nx_xor a b) (pk_eq o 2 (fun e2 => ?_) (fun n2 => nm_e (br_c (fun z => ?_) (fun z => ?_))))
  · subst e2
    have hp' : qa_p5 a = qa_p5 b := by
      rcases hp with z | z
      · exact absurd z (by decide)
      · exact z
    exact ⟨6, wx_ig1 ha hb hne hp' h 5 0 (by omega) 6 (by omega)⟩
  · rw [← nx_xor] at z
    have h2 := (qx_f2 o (by omega) a ha b hb hne hp).mp z
    rw [qx_bf h2] at h
    exact h
  · rw [← nx_xor] at z
    have h2 : qa_w0 o b < qa_w0 o a := by
      apply Classical.byContradiction
      intro y
      exact z ((qx_f2 o (by omega) a ha b hb hne hp).mpr y)
    rw [qx_bt h2] at h
    exact h
theorem qa_p5_le : ∀ a, a < 32 → qa_p5 a ≤ 5 := by decide +kernel
theorem wx_ig {post : Int32 → Prop} (ho : o < 3) {a b : Nat} (ha : a < 32) (hb : b < 32) (h : post (qx_b (qa_w0 o b < qa_w0 o a))) : wpX_isGreater post (vc, sz, nI o, rm, wk, gc, bp, bc, cp, ct, sc, ec, pc, aW, aT, aM, aR, aG, aB, aL, aC, aS, aE, aD, aF, aO, aK, aP) (nI a) (nI b) := by
  have pa := qa_p5_le a ha
  have pb := qa_p5_le b hb
  refine pk_eq a b (fun e1 => ?_) (fun hne => pk_eq o 0 (fun o0 => wx_ig2 ho ha hb hne (Or.inl o0) h) (fun o1 => ?_))
  · rw [e1, qx_bf (Nat.lt_irrefl _)] at h
    exact h
  · refine wx_cb _ (wx_cb _ ?_)
    rw [qc_p5 a ha, qc_p5 b hb]
    refine pk_eq (qa_p5 a) (qa_p5 b) (fun e1 => wx_ig2 ho ha hb hne (Or.inr e1) h) (fun n1 => ?_)
    have h1 := qx_f1 o ho o1 a ha b hb n1
    refine pk_le (qa_p5 a) (qa_p5 b) (fun h2 => ?_) (fun h2 => ?_)
    · rw [qx_bf (fun y => by have := h1.mp y; omega)] at h
      exact h
    · rw [qx_bt (h1.mpr h2)] at h
      exact h
theorem wx_igb {post : Int32 → Prop} (ho : o < 3) {a b k : Nat} (ha : a < 32) (hb : b < 32) (hk : k < 32) (h : post (qx_b (qa_wt o k b < qa_wt o k a))) : wpX_isGreaterInBlocks post (vc, sz, nI o, rm, wk, gc, bp, bc, cp, ct, sc, ec, pc, aW, aT, aM, aR, aG, aB, aL, aC, aS, aE, aD, aF, aO, aK, aP) (nI a) (nI b) (nI k) := by
  have hg := qa_wt_gt ho (k := k) ha hb
  have a1 := qa_an_lt (k := k) ha
  have b1 := qa_an_lt (k := k) hb
  have a2 := qa_dn_lt (k := k) ha
  have b2 := qa_dn_lt (k := k) hb
  refine nm_r (e' := nI (a &&& k)) (nx_and a k) (nm_r (e' := nI (b &&& k)) (nx_and b k) (pk_eq (a &&& k) (b &&& k) (fun e1 => ?_) (fun n1 => ?_)))
  · rw [qx_df a ha k hk, qx_df b hb k hk]
    refine wx_ig ho a2 b2 ⟨qx_nb (qx_b01 _), ?_⟩
    have h2 := hg.2 e1
    by_cases c : qa_wt o k b < qa_wt o k a
    · rw [qx_bt c] at h
      rw [qx_bt (h2.mp c)]; exact h
    · rw [qx_bf c] at h
      rw [qx_bf (fun y => c (h2.mpr y))]; exact h
  · refine wx_ig ho a1 b1 ⟨qx_nb (qx_b01 _), ?_⟩
    have h2 := hg.1 n1
    by_cases c : qa_wt o k b < qa_wt o k a
    · rw [qx_bt c] at h
      rw [qx_bt (h2.mp c)]; exact h
    · rw [qx_bf c] at h
      rw [qx_bf (fun y => c (h2.mpr y))]; exact h
/-! ===== ranking ===== -/
theorem wx_rk1 {post : SX → Prop} {J : Int32 → (Nat → Int32) → (Nat → Int32) → (Nat → Int32) → (Nat → Int32) → (Nat → Int32) → (Nat → Int32) → (Nat → Int32) → (Nat → Int32) → (Nat → Int32) → (Nat → Int32) → (Nat → Int32) → (Nat → Int32) → (Nat → Int32) → (Nat → Int32) → (Nat → Int32) → Prop} (ho : o < 3) (hs : s ≤ 32) {k m : Nat} (hk : k < 32) (hm : m < s)
    (H : J (nI (m + 1)) aW aT (upd aM (qa_rk (qa_wt o k) s m) (nI m)) (upd aR m (nI (qa_rk (qa_wt o k) s m))) aG aB aL aC aS aE aD aF aO aK aP) :
    ∀ d x, x + d = s → ∀ f, d < f → wX_rankMonomials_15 post J (nI k) (nI m) vc (nI s) (nI o) rm wk gc bp bc cp ct sc ec pc aW aT aM aR aG aB aL aC aS aE aD aF aO aK aP f (nI (qa_cn (fun d => qa_wt o k d < qa_wt o k m) x)) (nI x) := by
  intro d
  induction d with
  | zero =>
    intro x hx f hf
    obtain ⟨f, rfl⟩ : ∃ k, f = k + 1 := ⟨f - 1, by omega⟩
    have ex : x = s := by omega
    subst ex
    have hr := qa_rk_lt (qa_wt o k) hm
    show _ ∧ _
    rw [show qa_cn (fun d => qa_wt o k d < qa_wt o k m) x = qa_rk (qa_wt o k) x m from rfl]
    refine br_t (nI_le (by omega) (by omega)) ⟨vp_in_nI (by omega) (by decide), nm_r (e' := upd aR m (nI (qa_rk (qa_wt o k) x m))) (by rw [nI_clamp (by omega)]) ⟨vp_in_nI (by omega) (by decide), nm_r (e' := upd aM (qa_rk (qa_wt o k) x m) (nI m)) (by rw [nI_clamp (by omega)]) (nm_r (nI_1 m) H)⟩⟩
  | succ d ih =>
    intro x hx f hf
    obtain ⟨f, rfl⟩ : ∃ k, f = k + 1 := ⟨f - 1, by omega⟩
    have nx := ih (x + 1) (by omega) f (by omega)
    refine br_f (nI_ge (by omega) (by omega)) (wx_igb ho (by omega) (by omega) hk ?_)
    by_cases c : qa_wt o k x < qa_wt o k m
    · rw [qa_cn_t (P := fun d => qa_wt o k d < qa_wt o k m) c] at nx
      rw [qx_bt c]
      exact br_f (by decide) (nm_r (nI_1 _) (nm_r (nI_1 x) nx))
    · rw [qa_cn_f (P := fun d => qa_wt o k d < qa_wt o k m) c] at nx
      rw [qx_bf c]
      exact br_t rfl (nm_r (nI_1 x) nx)
theorem wx_rk2 {post : SX → Prop} (ho : o < 3) (hs : s ≤ 32) {k : Nat} (hk : k < 32)
    (H : ∀ aM aR : Nat → Int32, qa_As (qa_wt o k) s aM → post (vc, nI s, nI o, rm, wk, gc, bp, bc, cp, ct, sc, ec, pc, aW, aT, aM, aR, aG, aB, aL, aC, aS, aE, aD, aF, aO, aK, aP)) :
    ∀ d m, m + d = s → ∀ f, d < f → ∀ aM aR : Nat → Int32, (∀ m', m' < m → aM (qa_rk (qa_wt o k) s m') = nI m') → wX_rankMonomials_2 post (nI k) vc (nI s) (nI o) rm wk gc bp bc cp ct sc ec pc f (nI m) aW aT aM aR aG aB aL aC aS aE aD aF aO aK aP := by
  intro d
  induction d with
  | zero =>
    intro m hm f hf aM aR h
    obtain ⟨f, rfl⟩ : ∃ k, f = k + 1 := ⟨f - 1, by omega⟩
    have em : m = s := by omega
    subst em
    exact br_t (nI_le (by omega) (by omega)) (H aM aR h)
  | succ d ih =>
    intro m hm f hf aM aR h
    obtain ⟨f, rfl⟩ : ∃ k, f = k + 1 := ⟨f - 1, by omega⟩
    refine br_f (nI_ge (by omega) (by omega)) ⟨s + 1, wx_rk1 ho hs hk (by omega) ?_ s 0 (by omega) (s + 1) (by omega)⟩
    refine ih (m + 1) (by omega) f (by omega) _ _ fun m' hm' => ?_
    by_cases e1 : m' = m
    · rw [e1, pk_us]
    · rw [pk_un (fun z => e1 (qa_rk_inj (qa_wt_wo ho k) hs (by omega) (by omega) z))]
      exact h m' (by omega)
theorem wx_rk {post : SX → Prop} (ho : o < 3) (hs : s ≤ 32) {k : Nat} (hk : k < 32)
    (H : ∀ aM aR : Nat → Int32, qa_As (qa_wt o k) s aM → post (vc, nI s, nI o, rm, wk, gc, bp, bc, cp, ct, sc, ec, pc, aW, aT, aM, aR, aG, aB, aL, aC, aS, aE, aD, aF, aO, aK, aP)) : wpX_rankMonomials post (vc, nI s, nI o, rm, wk, gc, bp, bc, cp, ct, sc, ec, pc, aW, aT, aM, aR, aG, aB, aL, aC, aS, aE, aD, aF, aO, aK, aP) (nI k) :=
  ⟨s + 1, wx_rk2 ho hs hk H s 0 (by omega) (s + 1) (by omega) aM aR (fun m hm => absurd hm (Nat.not_lt_zero m))⟩
end
end
section
/-! ===== completing the system ===== -/
section
variable {vc sz od rm wk gc bp bc cp ct sc ec pc : Int32} {aW aT aM aR aG aB aL aC aS aE aD aF aO aK aP : Nat → Int32} {n s : Nat} {w : Nat → Nat}
theorem wx_cs2 {post : SX → Prop} {Zc : Nat → Prop} (hn : n ≤ 5) (hs : s = 2 ^ n) (hW : qx_W aW) (hw : qa_wo w) (hA : qa_As w s aM)
    (H : ∀ (e : Nat) (l : Nat → Nat) (aE aD aF aO aK aP : Nat → Int32), qx_E w s e aE aD l → qx_S w s e aE l 0 aF aO aP → (∀ x, qx_Z e aE x ↔ Zc x) → post (nI n, nI s, od, rm, wk, gc, bp, bc, cp, ct, sc, nI e, nI 0, aW, aT, aM, aR, aG, aB, aL, aC, aS, aE, aD, aF, aO, aK, aP)) :
    ∀ d t, t + d = 656 → ∀ f, d < f → ∀ (e k : Nat) (l : Nat → Nat) (aE aD aF aO aK aP : Nat → Int32), qx_E w s e aE aD l → qx_S w s e aE l k aF aO aP → k + t ≤ qx_tr e → (∀ x, qx_Z e aE x ↔ Zc x) → wX_completeSystem_48 post f (nI t) (nI n) (nI s) od rm wk gc bp bc cp ct sc (nI e) (nI k) aW aT aM aR aG aB aL aC aS aE aD aF aO aK aP := by
  intro d
  induction d with
  | zero =>
    intro t ht f hf e k l aE aD aF aO aK aP h1 h2 h3 h4
    obtain ⟨f, rfl⟩ : ∃ k, f = k + 1 := ⟨f - 1, by omega⟩
    have h5 := qx_tr_le e h1.1
    have ek : k = 0 := by omega
    subst ek
    exact br_t (nI_le (a := 656) (by omega) (by omega)) (H e l aE aD aF aO aK aP h1 h2 h4)
  | succ d ih =>
    intro t ht f hf e k l aE aD aF aO aK aP h1 h2 h3 h4
    obtain ⟨f, rfl⟩ : ∃ k, f = k + 1 := ⟨f - 1, by omega⟩
    have h5 := qx_tr_le e h1.1
    refine br_f (nI_ge (b := 656) (by omega) (by omega)) (pk_le k 0 (fun hk => ?_) (fun hk => ?_))
    · have ek : k = 0 := by omega
      subst ek
      exact H e l aE aD aF aO aK aP h1 h2 h4
    · obtain ⟨k, rfl⟩ : ∃ j, k = j + 1 := ⟨k - 1, by omega⟩
      rcases h2.2.2 with ⟨z, _⟩ | ⟨hPL, hI⟩
      · omega
      · refine wx_tp hn hs hW hw hA h1 h2.1 (by omega) hPL hI ?_
        intro e' k' l' aE' aD' aF' aO' aK' aP' g1 g2 g3 g4
        exact nm_r (nI_1 t) (ih (t + 1) (by omega) f (by omega) e' k' l' aE' aD' aF' aO' aK' aP' g1 g2 (by omega) (fun x => by rw [g4 x]; exact h4 x))
theorem wx_cs1 {post : SX → Prop} (hn : n ≤ 5) (hs : s = 2 ^ n) (hW : qx_W aW) (hw : qa_wo w) {B : Nat} (hB : ∀ a, a < 32 → w a < B) (hA : qa_As w s aM) {m : Nat} (hm : m ≤ 10) (hin : ∀ i, i < m → qa_in s (aS i))
    (H : ∀ (e : Nat) (l : Nat → Nat) (aE aD aF aO aK aP : Nat → Int32), qx_E w s e aE aD l → qx_S w s e aE l 0 aF aO aP → (∀ x, qx_Z e aE x ↔ ∀ i, i < m → qa_ev (aS i) x = false) → post (nI n, nI s, od, rm, wk, gc, bp, bc, cp, ct, nI m, nI e, nI 0, aW, aT, aM, aR, aG, aB, aL, aC, aS, aE, aD, aF, aO, aK, aP)) :
    ∀ d j, j + d = m → ∀ f, d < f → ∀ (e k : Nat) (l : Nat → Nat) (aE aD aF aO aK aP : Nat → Int32), qx_E w s e aE aD l → qx_S w s e aE l k aF aO aP → k ≤ qx_tr e → (∀ x, qx_Z e aE x ↔ ∀ i, i < j → qa_ev (aS i) x = false) → wX_completeSystem_12 post f (nI j) (nI n) (nI s) od rm wk gc bp bc cp ct (nI m) (nI e) (nI k) aW aT aM aR aG aB aL aC aS aE aD aF aO aK aP := by
  have hz : qa_sz s := by rw [hs]; exact qa_sz_n hn
  intro d
  induction d with
  | zero =>
    intro j hj f hf e k l aE aD aF aO aK aP h1 h2 h3 h4
    obtain ⟨f, rfl⟩ : ∃ k, f = k + 1 := ⟨f - 1, by omega⟩
    have ej : j = m := by omega
    subst ej
    exact br_t (nI_le (by omega) (by omega)) ⟨657, wx_cs2 hn hs hW hw hA H 656 0 (by omega) 657 (by omega) e k l aE aD aF aO aK aP h1 h2 (by omega) h4⟩
  | succ d ih =>
    intro j hj f hf e k l aE aD aF aO aK aP h1 h2 h3 h4
    obtain ⟨f, rfl⟩ : ∃ k, f = k + 1 := ⟨f - 1, by omega⟩
    have hjm : j < m := by omega
    have htr2 : qx_tr (e + 1) = qx_tr e + (e + 5) := rfl
    have zz : ∀ x, (qx_Z e aE x ∧ qa_ev (aS j) x = false) ↔ ∀ i, i < j + 1 → qa_ev (aS i) x = false := by
      intro x
      rw [h4 x]
      constructor
      · intro ⟨z1, z2⟩ i hi
        by_cases ei : i = j
        · rw [ei]; exact z2
        · exact z1 i (by omega)
      · intro z
        exact ⟨fun i hi => z i (by omega), z j (by omega)⟩
    refine br_f (nI_ge (by omega) (by omega)) ⟨vp_in_nI (by omega) (by decide), ?_⟩
    rw [nI_clamp (n := j) (by omega)]
    refine wx_na (X := qx_no) (t := B) hn hs hW hw hA h1 h2.1 h3 h2.2.1 ?_ (hin j hjm) (fun u hu => hB u (qa_lt hu)) (fun hV => ?_) (fun r hE1 hds1 hZ1 => ?_) (fun r u k' aF' aO' aK' aP' hE1 hds1 hZ1 hPL1 hI1 hk1 _ => ?_)
    · rcases h2.2.2 with ⟨_, z⟩ | z
      · exact Or.inl z
      · exact Or.inr z
    · refine nm_r (nI_1 j) (ih (j + 1) (by omega) f (by omega) e k l aE aD aF aO aK aP h1 h2 h3 (fun x => ?_))
      rw [← zz x]
      exact ⟨fun z => ⟨z, qa_V_ev hz z hV⟩, fun z => z.1⟩
    · exact nm_r (nI_1 j) (ih (j + 1) (by omega) f (by omega) (e + 1) 0 _ _ _ aF aO aK aP hE1 ⟨hds1, h2.2.1, Or.inl ⟨rfl, e, by omega, qx_l_t l e 0⟩⟩ (by omega) (fun x => by rw [hZ1 x]; exact zz x))
    · exact nm_r (nI_1 j) (ih (j + 1) (by omega) f (by omega) (e + 1) k' _ _ _ aF' aO' aK' aP' hE1 ⟨hds1, hPL1.2.2, Or.inr ⟨hPL1, hI1⟩⟩ (by omega) (fun x => by rw [hZ1 x]; exact zz x))
theorem wx_cs {post : SX → Prop} (hn : n ≤ 5) (hs : s = 2 ^ n) (hW : qx_W aW) (hw : qa_wo w) {B : Nat} (hB : ∀ a, a < 32 → w a < B) (hA : qa_As w s aM) (hP : ∀ j, aP j = 0 ∨ aP j = 1) {m : Nat} (hm : m ≤ 10) (hin : ∀ i, i < m → qa_in s (aS i))
    (H : ∀ (e : Nat) (l : Nat → Nat) (aE aD aF aO aK aP : Nat → Int32), qx_E w s e aE aD l → qx_ds e l → qa_G w s e aE l (fun x => ∀ i, i < m → qa_ev (aS i) x = false) → (∀ j, aP j = 0 ∨ aP j = 1) → post (nI n, nI s, od, rm, wk, gc, bp, bc, cp, ct, nI m, nI e, nI 0, aW, aT, aM, aR, aG, aB, aL, aC, aS, aE, aD, aF, aO, aK, aP)) :
    wpX_completeSystem post (nI n, nI s, od, rm, wk, gc, bp, bc, cp, ct, nI m, ec, pc, aW, aT, aM, aR, aG, aB, aL, aC, aS, aE, aD, aF, aO, aK, aP) := by
  have hz : qa_sz s := by rw [hs]; exact qa_sz_n hn
  refine ⟨m + 1, wx_cs1 (w := w) hn hs hW hw hB hA hm hin ?_ m 0 (by omega) (m + 1) (by omega) 0 0 (fun _ => 0) aE aD aF aO aK aP ⟨by omega, fun i hi => absurd hi (Nat.not_lt_zero i)⟩ ⟨fun i j _ hj => absurd hj (Nat.not_lt_zero j), hP, Or.inr ⟨⟨fun i hi => absurd hi (Nat.not_lt_zero i), fun a b ha => absurd ha (Nat.not_lt_zero a), hP⟩, ⟨fun a b _ ha => absurd ha (Nat.not_lt_zero a), fun a v ha => absurd ha (Nat.not_lt_zero a)⟩⟩⟩ (Nat.le_refl _) (fun x => ⟨fun _ i hi => absurd hi (Nat.not_lt_zero i), fun _ i hi => absurd hi (Nat.not_lt_zero i)⟩)⟩
  intro e l aE' aD' aF' aO' aK' aP' h1 h2 h3
  exact H e l aE' aD' aF' aO' aK' aP' h1 h2.1 (qx_S_G hw hz hB h1.1 (fun i hi => ⟨(h1.2 i hi).2.1, (h1.2 i hi).2.2⟩) h2 (fun x _ => h3 x)) h2.2.1
theorem wx_st {post : SX → Prop} {j : Nat} (hj : j < 10) (p : Int32) (h : post (vc, sz, od, rm, wk, gc, bp, bc, cp, ct, nI (j + 1), ec, pc, aW, aT, aM, aR, aG, aB, aL, aC, upd aS j p, aE, aD, aF, aO, aK, aP)) : wpX_stage post (vc, sz, od, rm, wk, gc, bp, bc, cp, ct, nI j, ec, pc, aW, aT, aM, aR, aG, aB, aL, aC, aS, aE, aD, aF, aO, aK, aP) p :=
  br_f (nI_ge (b := 10) hj (by decide)) ⟨vp_in_nI hj (by decide), nm_r (e' := upd aS j p) (by rw [nI_clamp (by omega)]) (nm_r (nI_1 j) h)⟩
/-- a normal form on a completed workbench -/
theorem qx_NF_nf {e : Nat} {g : Nat → Int32} {l : Nat → Nat} {Z : Nat → Prop} (hw : qa_wo w) (hz : qa_sz s) (hG : qa_G w s e g l Z) {B : Nat} (hB : ∀ a, a < 32 → w a < B) {q r : Int32} (h : qx_NF w s e g l q r) : qa_nf w s Z q r := by
  refine ⟨h.1, ?_, ?_⟩
  · intro x hx hzx
    exact qa_V_ev hz (fun i hi => (hG.1 i hi).2.2 x hx hzx) (h.2.2 B (fun m hm => hB m (qa_lt hm)))
  · intro m hm
    rw [qa_G_std hw hz hG (h.1 m hm)]
    exact h.2.1 m hm
theorem wx_nfG {e : Nat} {l : Nat → Nat} {Z : Nat → Prop} (hn : n ≤ 5) (hs : s = 2 ^ n) (hW : qx_W aW) (hw : qa_wo w) {B : Nat} (hB : ∀ a, a < 32 → w a < B) (hA : qa_As w s aM) (hE : qx_E w s e aE aD l) (hG : qa_G w s e aE l Z) {q : Int32} (hq : qa_in s q) :
    ∃ r, qa_nf w s Z q r ∧ ∀ post : Int32 → Prop, post r → wpX_normalForm post (nI n, nI s, od, rm, wk, gc, bp, bc, cp, ct, sc, nI e, pc, aW, aT, aM, aR, aG, aB, aL, aC, aS, aE, aD, aF, aO, aK, aP) q := by
  obtain ⟨r, h1, h2⟩ := wx_nf (od := od) (rm := rm) (wk := wk) (gc := gc) (bp := bp) (bc := bc) (cp := cp) (ct := ct) (sc := sc) (pc := pc) (aW := aW) (aT := aT) (aM := aM) (aR := aR) (aG := aG) (aB := aB) (aL := aL) (aC := aC) (aS := aS) (aE := aE) (aD := aD) (aF := aF) (aO := aO) (aK := aK) (aP := aP) hn hs hW hw hA hE hq
  exact ⟨r, qx_NF_nf hw (by rw [hs]; exact qa_sz_n hn) hG hB h1, h2⟩
/-! ===== the basis is taken off the workbench ===== -/
theorem wx_eb1 {post : SX → Prop} {e : Nat} {l : Nat → Nat} {Z : Nat → Prop} (hn : n ≤ 5) (hs : s = 2 ^ n) (hW : qx_W aW) (hw : qa_wo w) {B : Nat} (hB : ∀ a, a < 32 → w a < B) (hA : qa_As w s aM) (hE : qx_E w s e aE aD l) (hG : qa_G w s e aE l Z)
    (H : ∀ (b : Nat) (aB aL : Nat → Int32) (l2 : Nat → Nat), b ≤ 10 → qa_RB w s Z b aB → qa_RL w s Z l2 → (∀ i, i < b → aL i = nI (l2 i)) → post (nI n, nI s, od, rm, wk, gc, bp, nI b, cp, ct, sc, nI e, pc, aW, aT, aM, aR, aG, aB, aL, aC, aS, aE, aD, aF, aO, aK, aP)) :
    ∀ d r, r + d = s → ∀ f, d < f → ∀ (b : Nat) (aB aL : Nat → Int32) (l2 : Nat → Nat), b = qa_cn (fun r => qa_mn w s Z (qa_od w s r)) r →
      (∀ q, q < r → qa_mn w s Z (qa_od w s q) → qa_nf w s Z (qa_mo (qa_od w s q)) (qa_mo (qa_od w s q) ^^^ aB (qa_cn (fun r => qa_mn w s Z (qa_od w s r)) q))) →
      (∀ q, q < r → qa_mn w s Z (qa_od w s q) → l2 (qa_cn (fun r => qa_mn w s Z (qa_od w s r)) q) = qa_od w s q) → (∀ i, i < b → aL i = nI (l2 i)) →
      wX_extractBasis_7 post (nI n) (nI s) od rm wk gc bp cp ct sc (nI e) pc f (nI r) (nI b) aW aT aM aR aG aB aL aC aS aE aD aF aO aK aP := by
  have hz : qa_sz s := by rw [hs]; exact qa_sz_n hn
  have s32 := hz.2.1
  have h10 := qa_cn10 (Z := Z) hw hz
  intro d
  induction d with
  | zero =>
    intro r hr f hf b aB aL l2 h1 h2 h3 h4
    obtain ⟨f, rfl⟩ : ∃ k, f = k + 1 := ⟨f - 1, by omega⟩
    have er : r = s := by omega
    subst er
    exact br_t (nI_le (by omega) (by omega)) (H b aB aL l2 (by omega) ⟨h1, h2⟩ h3 h4)
  | succ d ih =>
    intro r hr f hf b aB aL l2 h1 h2 h3 h4
    obtain ⟨f, rfl⟩ : ∃ k, f = k + 1 := ⟨f - 1, by omega⟩
    have hrs : r < s := by omega
    obtain ⟨ms, mr⟩ := qa_od_s hw s32 hrs
    have eA : aM (nI r).toNatClampNeg = nI (qa_od w s r) := by rw [nI_clamp (by omega)]; exact qa_As_r hw s32 hA hrs
    have skip : ¬ qa_mn w s Z (qa_od w s r) → wX_extractBasis_7 post (nI n) (nI s) od rm wk gc bp cp ct sc (nI e) pc f (nI (r + 1)) (nI b) aW aT aM aR aG aB aL aC aS aE aD aF aO aK aP := by
      intro hno
      refine ih (r + 1) (by omega) f (by omega) b aB aL l2 ?_ (fun q hq hm => ?_) (fun q hq hm => ?_) h4
      · rw [h1, qa_cn_f (P := fun r => qa_mn w s Z (qa_od w s r)) hno]
      · by_cases eq : q = r
        · rw [eq] at hm; exact absurd hm hno
        · exact h2 q (by omega) hm
      · by_cases eq : q = r
        · rw [eq] at hm; exact absurd hm hno
        · exact h3 q (by omega) hm
    refine br_f (nI_ge (by omega) (by omega)) ⟨vp_in_nI (by omega) (by decide), nm_r eA (pk_le 10 b (fun hb => nm_r (nI_1 r) (skip fun hm => ?_)) (fun hb => ?_) rfl rfl (by omega) (by have := qa_cn_le (P := fun r => qa_mn w s Z (qa_od w s r)) r; omega))⟩
    · have h5 := qa_cn_lt (P := fun r => qa_mn w s Z (qa_od w s r)) hm hrs
      omega
    · refine wx_ml hE.1 (fun i hi => ⟨(hE.2 i hi).1, qx_E32 hE hi⟩) (by omega) (fun hml => ?_) (fun hml => ?_)
      · have hm : qa_mn w s Z (qa_od w s r) := (qa_G_mn hw hz hG ms).mpr hml
        obtain ⟨r0, hr0, hwp⟩ := wx_nfG (od := od) (rm := rm) (wk := wk) (gc := gc) (bp := bp) (cp := cp) (ct := ct) (sc := sc) (pc := pc) (aW := aW) (aT := aT) (aM := aM) (aR := aR) (aG := aG) (aB := aB) (aL := aL) (aC := aC) (aS := aS) (aE := aE) (aD := aD) (aF := aF) (aO := aO) (aK := aK) (aP := aP) (bc := nI b) hn hs hW hw hB hA hE hG (q := qa_mo (qa_od w s r)) (qa_in_mo s32 ms)
        refine br_f (by decide) (hwp _ ?_)
        have c1 : (nI b).toNatClampNeg = b := nI_clamp (by omega)
        have vb : vp_in (nI b) 10 := vp_in_nI hb (by decide)
        refine ⟨vb, nm_r (e' := upd aB b (qa_mo (qa_od w s r) ^^^ r0)) (by rw [c1]; rfl) ⟨vb, nm_r (e' := upd aL b (nI (qa_od w s r))) (by rw [c1]) (nm_r (nI_1 b) (nm_r (nI_1 r) ?_))⟩⟩
        refine ih (r + 1) (by omega) f (by omega) (b + 1) _ _ (qx_l l2 b (qa_od w s r)) ?_ (fun q hq hmq => ?_) (fun q hq hmq => ?_) (fun i hi => ?_)
        · rw [h1, qa_cn_t (P := fun r => qa_mn w s Z (qa_od w s r)) hm]
        · by_cases eq : q = r
          · rw [eq, ← h1, pk_us, qa_xk']
            exact hr0
          · have h6 := qa_cn_lt (P := fun r => qa_mn w s Z (qa_od w s r)) hmq (show q < r by omega)
            rw [pk_un (by omega)]
            exact h2 q (by omega) hmq
        · by_cases eq : q = r
          · rw [eq, ← h1, qx_l_t]
          · have h6 := qa_cn_lt (P := fun r => qa_mn w s Z (qa_od w s r)) hmq (show q < r by omega)
            rw [qx_l_n l2 (by omega)]
            exact h3 q (by omega) hmq
        · by_cases ei : i = b
          · rw [ei, pk_us, qx_l_t]
          · rw [pk_un ei, qx_l_n l2 (by omega)]
            exact h4 i (by omega)
      · exact br_t rfl (nm_r (nI_1 r) (skip fun hm => hml ((qa_G_mn hw hz hG ms).mp hm)))
theorem wx_eb {post : SX → Prop} {e : Nat} {l : Nat → Nat} {Z : Nat → Prop} (hn : n ≤ 5) (hs : s = 2 ^ n) (hW : qx_W aW) (hw : qa_wo w) {B : Nat} (hB : ∀ a, a < 32 → w a < B) (hA : qa_As w s aM) (hE : qx_E w s e aE aD l) (hG : qa_G w s e aE l Z)
    (H : ∀ (b : Nat) (aB aL : Nat → Int32) (l2 : Nat → Nat), b ≤ 10 → qa_RB w s Z b aB → qa_RL w s Z l2 → (∀ i, i < b → aL i = nI (l2 i)) → post (nI n, nI s, od, rm, wk, gc, bp, nI b, cp, ct, sc, nI e, pc, aW, aT, aM, aR, aG, aB, aL, aC, aS, aE, aD, aF, aO, aK, aP)) :
    wpX_extractBasis post (nI n, nI s, od, rm, wk, gc, bp, bc, cp, ct, sc, nI e, pc, aW, aT, aM, aR, aG, aB, aL, aC, aS, aE, aD, aF, aO, aK, aP) :=
  ⟨s + 1, wx_eb1 hn hs hW hw hB hA hE hG H s 0 (by omega) (s + 1) (by omega) 0 aB aL (fun _ => 0) rfl (fun q hq => absurd hq (Nat.not_lt_zero q)) (fun q hq => absurd hq (Nat.not_lt_zero q)) (fun i hi => absurd hi (Nat.not_lt_zero i))⟩
theorem wx_bb {post : SX → Prop} {b : Nat} (hb : b ≤ 10) (H : ∀ aE aD : Nat → Int32, (∀ i, i < b → aE i = aB i ∧ aD i = aL i) → post (vc, sz, od, rm, wk, gc, bp, nI b, cp, ct, sc, nI b, pc, aW, aT, aM, aR, aG, aB, aL, aC, aS, aE, aD, aF, aO, aK, aP)) : wpX_benchBasis post (vc, sz, od, rm, wk, gc, bp, nI b, cp, ct, sc, ec, pc, aW, aT, aM, aR, aG, aB, aL, aC, aS, aE, aD, aF, aO, aK, aP) := by
  have key : ∀ d j, j + d = b → ∀ f, d < f → ∀ aE aD : Nat → Int32, (∀ i, i < j → aE i = aB i ∧ aD i = aL i) → wX_benchBasis_2 post vc sz od rm wk gc bp (nI b) cp ct sc ec pc f (nI j) aW aT aM aR aG aB aL aC aS aE aD aF aO aK aP := by
    intro d
    induction d with
    | zero =>
      intro j hj f hf aE aD h
      obtain ⟨f, rfl⟩ : ∃ k, f = k + 1 := ⟨f - 1, by omega⟩
      have ej : j = b := by omega
      subst ej
      exact br_t (nI_le (by omega) (by omega)) (H aE aD h)
    | succ d ih =>
      intro j hj f hf aE aD h
      obtain ⟨f, rfl⟩ : ∃ k, f = k + 1 := ⟨f - 1, by omega⟩
      have c1 : (nI j).toNatClampNeg = j := nI_clamp (by omega)
      have v10 : vp_in (nI j) 10 := vp_in_nI (by omega) (by decide)
      have v32 : vp_in (nI j) 32 := vp_in_nI (by omega) (by decide)
      refine br_f (nI_ge (by omega) (by omega)) ⟨v10, v32, nm_r (e' := upd aE j (aB j)) (by rw [c1]) ⟨v10, v32, nm_r (e' := upd aD j (aL j)) (by rw [c1]) (nm_r (nI_1 j) (ih (j + 1) (by omega) f (by omega) _ _ fun i hi => ?_))⟩⟩
      by_cases ei : i = j
      · rw [ei, pk_us, pk_us]; exact ⟨rfl, rfl⟩
      · rw [pk_un ei, pk_un ei]; exact h i (by omega)
  exact ⟨b + 1, key b 0 (by omega) (b + 1) (by omega) aE aD (fun i hi => absurd hi (Nat.not_lt_zero i))⟩
end
end
section
/-! ===== staging the unmasked elements; the tables; clamp ===== -/
section
variable {vc sz od rm wk gc bp bc cp ct sc ec pc : Int32} {aW aT aM aR aG aB aL aC aS aE aD aF aO aK aP : Nat → Int32} {n s : Nat} {w : Nat → Nat}
theorem qx_ds_ne {e : Nat} {l : Nat → Nat} (h : qx_ds e l) {i j : Nat} (hi : i < e) (hj : j < e) (hne : i ≠ j) : ¬ l i = l j := by
  intro e1
  rcases Nat.lt_or_ge i j with z | z
  · exact h i j z hj (by rw [e1]; exact qa_sb_refl _)
  · exact h j i (by omega) hi (by rw [e1]; exact qa_sb_refl _)
theorem wx_su {post : SX → Prop} {e k : Nat} {l : Nat → Nat} (hE : qx_E w s e aE aD l) (hds : qx_ds e l)
    (H : ∀ (m : Nat) (aS : Nat → Int32), m ≤ 10 → (∀ j, j < m → ∃ i, i < e ∧ aS j = aE i ∧ l i &&& k = 0 ∧ qx_ML e l (l i)) → (∀ i, i < e → l i &&& k = 0 → qx_ML e l (l i) → ∃ j, j < m ∧ aS j = aE i) → post (vc, sz, od, rm, wk, gc, bp, bc, cp, ct, nI m, nI e, pc, aW, aT, aM, aR, aG, aB, aL, aC, aS, aE, aD, aF, aO, aK, aP)) :
    wpX_stageUnmasked post (vc, sz, od, rm, wk, gc, bp, bc, cp, ct, sc, nI e, pc, aW, aT, aM, aR, aG, aB, aL, aC, aS, aE, aD, aF, aO, aK, aP) (nI k) := by
  have he := hE.1
  have key : ∀ d i, i + d = e → ∀ f, d < f → ∀ (m : Nat) (aS : Nat → Int32) (ix : Nat → Nat), m ≤ 10 → (∀ j, j < m → ix j < i ∧ aS j = aE (ix j) ∧ l (ix j) &&& k = 0 ∧ qx_ML e l (l (ix j))) → (∀ j j', j < m → j' < m → j ≠ j' → ix j ≠ ix j') → (∀ i', i' < i → l i' &&& k = 0 → qx_ML e l (l i') → ∃ j, j < m ∧ aS j = aE i') → wX_stageUnmasked_7 post (nI k) f (nI i) vc sz od rm wk gc bp bc cp ct (nI m) (nI e) pc aW aT aM aR aG aB aL aC aS aE aD aF aO aK aP := by
    intro d
    induction d with
    | zero =>
      intro i hi f hf m aS ix h0 h1 h2 h3
      obtain ⟨f, rfl⟩ : ∃ k, f = k + 1 := ⟨f - 1, by omega⟩
      have ei : i = e := by omega
      subst ei
      exact br_t (nI_le (by omega) (by omega)) (H m aS h0 (fun j hj => ⟨ix j, h1 j hj⟩) h3)
    | succ d ih =>
      intro i hi f hf m aS ix h0 h1 h2 h3
      obtain ⟨f, rfl⟩ : ∃ k, f = k + 1 := ⟨f - 1, by omega⟩
      have hie : i < e := by omega
      have l32 := qx_E32 hE hie
      have vi : vp_in (nI i) 32 := vp_in_nI (by omega) (by decide)
      have c1 : (nI i).toNatClampNeg = i := nI_clamp (by omega)
      have eD : aD (nI i).toNatClampNeg = nI (l i) := by rw [c1]; exact (hE.2 i hie).1
      have skip : ¬ (l i &&& k = 0 ∧ qx_ML e l (l i)) → wX_stageUnmasked_7 post (nI k) f (nI (i + 1)) vc sz od rm wk gc bp bc cp ct (nI m) (nI e) pc aW aT aM aR aG aB aL aC aS aE aD aF aO aK aP := by
        intro hno
        refine ih (i + 1) (by omega) f (by omega) m aS ix h0 (fun j hj => ?_) h2 (fun i' hi' g1 g2 => ?_)
        · have := h1 j hj
          exact ⟨by omega, this.2⟩
        · by_cases ei : i' = i
          · rw [ei] at g1 g2
            exact absurd ⟨g1, g2⟩ hno
          · exact h3 i' (by omega) g1 g2
      refine br_f (nI_ge (by omega) (by omega)) ⟨vi, nm_r eD (br_c (fun hz => ?_) (fun hz => nm_r (nI_1 i) (skip fun y => ?_)))⟩
      · rw [qx_and0 l32] at hz
        refine wx_ml he (fun i hi => ⟨(hE.2 i hi).1, qx_E32 hE hi⟩) l32 (fun hml => ?_) (fun hml => br_t rfl (nm_r (nI_1 i) (skip fun y => hml y.2)))
        have hm10 : m + 1 ≤ 10 := by
          refine qa_sper (f := fun j => if j = m then l i else l (ix j)) (fun j hj => ?_) (fun j j' hj hj' hne => ?_)
          · show (if j = m then l i else l (ix j)) < 32
            by_cases ej : j = m
            · rw [if_pos ej]; exact l32
            · rw [if_neg ej]
              have := (h1 j (by omega)).1
              exact qx_E32 hE (by omega)
          · show ¬ (if j = m then l i else l (ix j)) &&& (if j' = m then l i else l (ix j')) = (if j = m then l i else l (ix j))
            by_cases ej : j = m
            · rw [if_pos ej, if_neg (by omega)]
              have g := h1 j' (by omega)
              exact g.2.2.2.2 i hie (qx_ds_ne hds hie (by omega) (by omega))
            · rw [if_neg ej]
              have g := h1 j (by omega)
              by_cases ej' : j' = m
              · rw [if_pos ej']
                exact hml.2 (ix j) (by omega) (qx_ds_ne hds (by omega) hie (by omega))
              · rw [if_neg ej']
                have g' := h1 j' (by omega)
                exact g'.2.2.2.2 (ix j) (by omega) (qx_ds_ne hds (by omega) (by omega) (h2 j j' (by omega) (by omega) hne))
        refine br_f (by decide) ⟨vi, ?_⟩
        rw [c1]
        refine wx_st (by omega) _ ?_
        refine nm_r (nI_1 i) (ih (i + 1) (by omega) f (by omega) (m + 1) _ (qx_l ix m i) hm10 (fun j hj => ?_) (fun j j' hj hj' hne => ?_) (fun i' hi' g1 g2 => ?_))
        · by_cases ej : j = m
          · rw [ej, qx_l_t, pk_us]
            exact ⟨by omega, rfl, hz, hml⟩
          · rw [qx_l_n ix (by omega), pk_un ej]
            have g := h1 j (by omega)
            exact ⟨by omega, g.2⟩
        · by_cases ej : j = m
          · rw [ej, qx_l_t, qx_l_n ix (by omega)]
            have g := h1 j' (by omega)
            omega
          · rw [qx_l_n ix (by omega)]
            have g := h1 j (by omega)
            by_cases ej' : j' = m
            · rw [ej', qx_l_t]
              omega
            · rw [qx_l_n ix (by omega)]
              exact h2 j j' (by omega) (by omega) hne
        · by_cases ei : i' = i
          · exact ⟨m, by omega, by rw [pk_us, ei]⟩
          · obtain ⟨j, hj, ej⟩ := h3 i' (by omega) g1 g2
            exact ⟨j, by omega, by rw [pk_un (by omega)]; exact ej⟩
      · rw [qx_and0 l32] at hz
        exact hz y.1
  exact ⟨e + 1, key e 0 (by omega) (e + 1) (by omega) 0 aS (fun _ => 0) (by omega) (fun j hj => absurd hj (Nat.not_lt_zero j)) (fun j _ hj => absurd hj (Nat.not_lt_zero j)) (fun i hi => absurd hi (Nat.not_lt_zero i))⟩
/-! the tables -/
theorem wx_ft3 {post : SX → Prop} {J : Int32 → (Nat → Int32) → (Nat → Int32) → (Nat → Int32) → (Nat → Int32) → (Nat → Int32) → (Nat → Int32) → (Nat → Int32) → (Nat → Int32) → (Nat → Int32) → (Nat → Int32) → (Nat → Int32) → (Nat → Int32) → (Nat → Int32) → (Nat → Int32) → (Nat → Int32) → Prop} {m : Nat} (hm : m < 32)
    (H : ∀ aT : Nat → Int32, (∀ x, x < 32 → aT x = qx_mk (fun j => qa_dv j x) (m + 1)) → J (nI (m + 1)) aW aT aM aR aG aB aL aC aS aE aD aF aO aK aP) :
    ∀ d x, x + d = 32 → ∀ f, d < f → ∀ aT : Nat → Int32, (∀ y, y < 32 → aT y = qx_mk (fun j => qa_dv j y) (if y < x then m + 1 else m)) → wX_fillTables_43 post J (nI m) vc sz od rm wk gc bp bc cp ct sc ec pc f (nI x) aW aT aM aR aG aB aL aC aS aE aD aF aO aK aP := by
  intro d
  induction d with
  | zero =>
    intro x hx f hf aT h
    obtain ⟨f, rfl⟩ : ∃ k, f = k + 1 := ⟨f - 1, by omega⟩
    exact br_t (nI_le (a := 32) (by omega) (by omega)) (nm_r (nI_1 m) (H aT fun y hy => by rw [h y hy, if_pos (by omega)]))
  | succ d ih =>
    intro x hx f hf aT h
    obtain ⟨f, rfl⟩ : ∃ k, f = k + 1 := ⟨f - 1, by omega⟩
    have hx32 : x < 32 := by omega
    have vx : vp_in (nI x) 32 := vp_in_nI hx32 (by decide)
    have c1 : (nI x).toNatClampNeg = x := nI_clamp (by omega)
    have hx0 := h x hx32
    rw [if_neg (by omega)] at hx0
    refine br_f (nI_ge (b := 32) (by omega) (by omega)) (qx_dvb (a := m) rfl hm (fun hz => ⟨vx, vx, nm_r (e' := upd aT x (qx_mk (fun j => qa_dv j x) (m + 1))) ?_ (nm_r (nI_1 x) (ih (x + 1) (by omega) f (by omega) _ fun y hy => ?_))⟩) (fun hz => nm_r (nI_1 x) (ih (x + 1) (by omega) f (by omega) aT fun y hy => ?_)))
    · rw [c1, hx0]
      show upd aT x (qx_mk (fun j => qa_dv j x) m ||| qa_mo m) = _
      rw [show qx_mk (fun j => qa_dv j x) (m + 1) = qx_mk (fun j => qa_dv j x) m ||| qa_mo m from if_pos (qa_dv_t.mpr hz)]
    · by_cases ey : y = x
      · rw [ey, pk_us, if_pos (by omega)]
      · rw [pk_un ey, h y hy]
        by_cases cy : y < x
        · rw [if_pos cy, if_pos (by omega)]
        · rw [if_neg cy, if_neg (by omega)]
    · by_cases ey : y = x
      · rw [ey, hx0, if_pos (by omega)]
        exact (if_neg (by show ¬ qa_dv m x = true; rw [qa_dv_f.mpr hz]; decide)).symm
      · rw [h y hy]
        by_cases cy : y < x
        · rw [if_pos cy, if_pos (by omega)]
        · rw [if_neg cy, if_neg (by omega)]
theorem wx_ft2 {post : SX → Prop} {J : Int32 → (Nat → Int32) → (Nat → Int32) → (Nat → Int32) → (Nat → Int32) → (Nat → Int32) → (Nat → Int32) → (Nat → Int32) → (Nat → Int32) → (Nat → Int32) → (Nat → Int32) → (Nat → Int32) → (Nat → Int32) → (Nat → Int32) → (Nat → Int32) → (Nat → Int32) → Prop} {m : Nat} (hm : m < 32)
    (H : ∀ aW : Nat → Int32, (∀ v, v < 5 → aW v = qx_mk (fun j => j.testBit v) (m + 1)) → ∃ f, wX_fillTables_43 post J (nI m) vc sz od rm wk gc bp bc cp ct sc ec pc f 0 aW aT aM aR aG aB aL aC aS aE aD aF aO aK aP) :
    ∀ d x, x + d = 5 → ∀ f, d < f → ∀ aW : Nat → Int32, (∀ y, y < 5 → aW y = qx_mk (fun j => j.testBit y) (if y < x then m + 1 else m)) → wX_fillTables_10 post J (nI m) vc sz od rm wk gc bp bc cp ct sc ec pc f (nI x) aW aT aM aR aG aB aL aC aS aE aD aF aO aK aP := by
  intro d
  induction d with
  | zero =>
    intro x hx f hf aW h
    obtain ⟨f, rfl⟩ : ∃ k, f = k + 1 := ⟨f - 1, by omega⟩
    exact br_t (nI_le (a := 5) (by omega) (by omega)) (H aW fun y hy => by rw [h y hy, if_pos (by omega)])
  | succ d ih =>
    intro x hx f hf aW h
    obtain ⟨f, rfl⟩ : ∃ k, f = k + 1 := ⟨f - 1, by omega⟩
    have hx5 : x < 5 := by omega
    have vx : vp_in (nI x) 5 := vp_in_nI hx5 (by decide)
    have c1 : (nI x).toNatClampNeg = x := nI_clamp (by omega)
    have hx0 := h x hx5
    rw [if_neg (by omega)] at hx0
    refine br_f (nI_ge (b := 5) (by omega) (by omega)) (qa_br0 (by omega) (fun hz => nm_r (nI_1 x) (ih (x + 1) (by omega) f (by omega) aW fun y hy => ?_)) (fun hz => ⟨vx, vx, nm_r (e' := upd aW x (qx_mk (fun j => j.testBit x) (m + 1))) ?_ (nm_r (nI_1 x) (ih (x + 1) (by omega) f (by omega) _ fun y hy => ?_))⟩))
    · rw [qx_btn hm] at hz
      by_cases ey : y = x
      · rw [ey, hx0, if_pos (by omega)]
        exact (if_neg (by show ¬ m.testBit x = true; rw [hz]; decide)).symm
      · rw [h y hy]
        by_cases cy : y < x
        · rw [if_pos cy, if_pos (by omega)]
        · rw [if_neg cy, if_neg (by omega)]
    · rw [qx_btn hm] at hz
      rw [c1, hx0]
      show upd aW x (qx_mk (fun j => j.testBit x) m ||| qa_mo m) = _
      rw [show qx_mk (fun j => j.testBit x) (m + 1) = qx_mk (fun j => j.testBit x) m ||| qa_mo m from if_pos hz]
    · by_cases ey : y = x
      · rw [ey, pk_us, if_pos (by omega)]
      · rw [pk_un ey, h y hy]
        by_cases cy : y < x
        · rw [if_pos cy, if_pos (by omega)]
        · rw [if_neg cy, if_neg (by omega)]
theorem wx_ft1 {post : SX → Prop} (H : ∀ aW aT : Nat → Int32, qx_W aW → qx_T aT → post (vc, sz, od, rm, wk, gc, bp, bc, cp, ct, sc, ec, pc, aW, aT, aM, aR, aG, aB, aL, aC, aS, aE, aD, aF, aO, aK, aP)) :
    ∀ d m, m + d = 32 → ∀ f, d < f → ∀ aW aT : Nat → Int32, (∀ v, v < 5 → aW v = qx_mk (fun j => j.testBit v) m) → (∀ x, x < 32 → aT x = qx_mk (fun j => qa_dv j x) m) → wX_fillTables_2 post vc sz od rm wk gc bp bc cp ct sc ec pc f (nI m) aW aT aM aR aG aB aL aC aS aE aD aF aO aK aP := by
  intro d
  induction d with
  | zero =>
    intro m hm f hf aW aT h1 h2
    obtain ⟨f, rfl⟩ : ∃ k, f = k + 1 := ⟨f - 1, by omega⟩
    have em : m = 32 := by omega
    subst em
    exact br_t (nI_le (a := 32) (by omega) (by omega)) (H aW aT h1 h2)
  | succ d ih =>
    intro m hm f hf aW aT h1 h2
    obtain ⟨f, rfl⟩ : ∃ k, f = k + 1 := ⟨f - 1, by omega⟩
    refine br_f (nI_ge (b := 32) (by omega) (by omega)) ⟨6, wx_ft2 (by omega) (fun aW' h3 => ⟨33, wx_ft3 (by omega) (fun aT' h4 => ih (m + 1) (by omega) f (by omega) aW' aT' h3 h4) 32 0 (by omega) 33 (by omega) aT (fun y hy => ?_)⟩) 5 0 (by omega) 6 (by omega) aW (fun y hy => ?_)⟩
    · rw [if_neg (by omega)]; exact h2 y hy
    · rw [if_neg (by omega)]; exact h1 y hy
theorem wx_ft {post : SX → Prop} (H : ∀ aW aT : Nat → Int32, qx_W aW → qx_T aT → post (vc, sz, od, rm, wk, gc, bp, bc, cp, ct, sc, ec, pc, aW, aT, aM, aR, aG, aB, aL, aC, aS, aE, aD, aF, aO, aK, aP)) : wpX_fillTables post (vc, sz, od, rm, wk, gc, bp, bc, cp, ct, sc, ec, pc, (fun _ => 0), (fun _ => 0), aM, aR, aG, aB, aL, aC, aS, aE, aD, aF, aO, aK, aP) :=
  ⟨33, wx_ft1 H 32 0 (by omega) 33 (by omega) _ _ (fun _ _ => rfl) (fun _ _ => rfl)⟩
end
section
variable {vc sz od rm wk gc bp bc cp ct sc ec pc : Int32} {aW aT aM aR aG aB aL aC aS aE aD aF aO aK aP : Nat → Int32} {ysz yrm yod ywk ygc ybp ycz ybs ycp yct yrc : Int32} {yG yB yC yA yV yP yI : Nat → Int32}
theorem wx_cl (x : Int32) {lo hi : Nat} (h : lo ≤ hi) (h2 : hi < 100) : ∃ j, lo ≤ j ∧ j ≤ hi ∧ (∀ (u : SX) (post : Int32 → Prop), post (nI j) → wpX_clamp post u x (nI lo) (nI hi)) ∧ (∀ (u : SY) (post : Int32 → Prop), post (nI j) → wpY_clamp post u x (nI lo) (nI hi)) := by
  by_cases h1 : nI lo ≤ x
  · by_cases h3 : x ≤ nI hi
    · have h0 : ¬ x < 0 := by
        intro z
        have := Int32.lt_of_lt_of_le z (nI_pos' (n := lo) (by omega))
        exact Int32.lt_irrefl (Int32.lt_of_le_of_lt h1 this)
      obtain ⟨j, hj, rfl⟩ := nI_of h0
      rw [nI_leI (by omega) (by omega)] at h1 h3
      refine ⟨j, h1, h3, fun u post hp => ?_, fun u post hp => ?_⟩
      · exact br_t (nI_le h1 (by omega)) (br_t (nI_le h3 (by omega)) hp)
      · exact br_t (nI_le h1 (by omega)) (br_t (nI_le h3 (by omega)) hp)
    · exact ⟨hi, h, Nat.le_refl _, fun u post hp => br_t h1 (br_f h3 hp), fun u post hp => br_t h1 (br_f h3 hp)⟩
  · exact ⟨lo, Nat.le_refl _, h, fun u post hp => br_f h1 hp, fun u post hp => br_f h1 hp⟩
end
end
section
/-! ===== the reference: reading ===== -/
theorem qa_w0_wt {o : Nat} (ho : o < 3) : qa_w0 o = qa_wt o 0 := funext fun a => (qa_wt_0 ho a).symm
/-- the values of p as a set of points -/
def qy_vl (s : Nat) (p : Int32) : Int32 := qx_mk (fun x => qa_ev p x) s
theorem qy_vl_bt {s : Nat} (hs : s ≤ 32) (p : Int32) (x : Nat) : bt (qy_vl s p) x = (decide (x < s) && qa_ev p x) := qx_mk_bt _ s hs x
def qy_al (F : Nat → Bool) : Nat → Bool
  | 0 => true
  | k + 1 => (qy_al F k && F k)
theorem qy_al_t (F : Nat → Bool) : ∀ k, qy_al F k = true ↔ ∀ i, i < k → F i = true
  | 0 => ⟨fun _ i hi => absurd hi (Nat.not_lt_zero i), fun _ => rfl⟩
  | k + 1 => by
    show (qy_al F k && F k) = true ↔ _
    rw [Bool.and_eq_true, qy_al_t F k]
    constructor
    · intro ⟨h1, h2⟩ i hi
      by_cases e : i = k
      · rw [e]; exact h2
      · exact h1 i (by omega)
    · intro h
      exact ⟨fun i hi => h i (by omega), h k (by omega)⟩
/-- the common zeros of g 0 .. g (k-1) -/
def qy_cz (s : Nat) (g : Nat → Int32) (k : Nat) : Int32 := qx_mk (fun x => qy_al (fun i => !qa_ev (g i) x) k) s
theorem qy_cz_bt {s : Nat} (hs : s ≤ 32) (g : Nat → Int32) (k x : Nat) : bt (qy_cz s g k) x = true ↔ x < s ∧ ∀ i, i < k → qa_ev (g i) x = false := by
  unfold qy_cz
  rw [qx_mk_bt _ s hs, Bool.and_eq_true, decide_eq_true_eq, qy_al_t]
  constructor
  · intro ⟨h1, h2⟩
    refine ⟨h1, fun i hi => ?_⟩
    have := h2 i hi
    revert this
    cases qa_ev (g i) x <;> simp
  · intro ⟨h1, h2⟩
    refine ⟨h1, fun i hi => ?_⟩
    show (!qa_ev (g i) x) = true
    rw [h2 i hi]; rfl
section
variable {ysz yrm yod ywk ygc ybp ycz ybs ycp yct yrc : Int32} {yG yB yC yA yV yP yI : Nat → Int32} {s o : Nat}
theorem wy_bi {post : Int32 → Prop} (x : Int32) (h : post (nI (qc_pc x 32))) : wpY_bits post (ysz, yrm, yod, ywk, ygc, ybp, ycz, ybs, ycp, yct, yrc, yG, yB, yC, yA, yV, yP, yI) x := by
  have key : ∀ d k, k + d = 32 → ∀ f, d < f → wY_bits_4 post x ysz yrm yod ywk ygc ybp ycz ybs ycp yct yrc yG yB yC yA yV yP yI f (nI (qc_pc x k)) (nI k) := by
    intro d
    induction d with
    | zero =>
      intro k hk f hf
      obtain ⟨f, rfl⟩ : ∃ k, f = k + 1 := ⟨f - 1, by omega⟩
      have ek : k = 32 := by omega
      subst ek
      exact br_t (nI_le (a := 32) (by omega) (by omega)) h
    | succ d ih =>
      intro k hk f hf
      obtain ⟨f, rfl⟩ : ∃ k, f = k + 1 := ⟨f - 1, by omega⟩
      refine br_f (nI_ge (b := 32) (by omega) (by omega)) (nm_r (e' := nI (qc_pc x (k + 1))) ?_ (nm_r (nI_1 k) (ih (k + 1) (by omega) f (by omega))))
      rw [qa_t x (by omega)]
      show _ = nI (qc_pc x k + (if bt x k then 1 else 0))
      rw [← nI_add]
      cases bt x k <;> rfl
  exact ⟨33, key 32 0 (by omega) 33 (by omega)⟩
theorem wy_gr1 {post : Int32 → Prop} (ho : o < 2) {a b : Nat} (ha : a < 32) (hb : b < 32) (hp : o = 0 ∨ qa_p5 a = qa_p5 b) (h : post (qx_b (qa_w0 o b < qa_w0 o a))) :
    ∀ d k, k + d = 5 → (a ^^^ b) % 2 ^ k = 0 → ∀ f, d < f → wY_greater_87 post (nI a) (nI b) ysz yrm yod ywk ygc ybp ycz ybs ycp yct yrc yG yB yC yA yV yP yI f (nI k) := by
  intro d
  induction d with
  | zero =>
    intro k hk hm f hf
    obtain ⟨f, rfl⟩ : ∃ k, f = k + 1 := ⟨f - 1, by omega⟩
    have ek : k = 5 := by omega
    subst ek
    have hx := qx_x32 ha hb
    rw [Nat.mod_eq_of_lt (by omega)] at hm
    have := qx_f6 a ha b hb hm
    subst this
    rw [qx_bf (Nat.lt_irrefl _)] at h
    exact br_t (nI_le (a := 5) (by omega) (by omega)) h
  | succ d ih =>
    intro k hk hm f hf
    obtain ⟨f, rfl⟩ : ∃ k, f = k + 1 := ⟨f - 1, by omega⟩
    refine br_f (nI_ge (b := 5) (by omega) (by omega)) ?_
    rw [nx_xor]
    refine qa_br1 (by omega) (fun hz => ?_) (fun hz => nm_r (nI_1 k) (ih (k + 1) (by omega) ?_ f (by omega)))
    · rw [qx_btn (qx_x32 ha hb)] at hz
      have h4 := qx_f4 o ho k (by omega) a ha b hb hp (by rw [qx_md_t hz, hm, Nat.zero_or])
      refine qa_br1 (by omega) (fun hy => ?_) (fun hy => ?_)
      · rw [qx_btn ha] at hy
        rw [qx_bt (h4.mpr hy)] at h
        exact h
      · rw [qx_btn ha] at hy
        rw [qx_bf (fun y => by rw [h4.mp y] at hy; exact nomatch hy)] at h
        exact h
    · rw [qx_btn (qx_x32 ha hb)] at hz
      rw [qx_md_f hz, hm]
theorem qy_half {d k : Nat} (h : d / 2 ^ (k + 1) = 0) : (d.testBit k = true → d / 2 ^ k = 1) ∧ (d.testBit k = false → d / 2 ^ k = 0) := by
  rw [Nat.pow_succ, ← Nat.div_div_eq_div_mul] at h
  rw [Nat.testBit_eq_decide_div_mod_eq]
  generalize d / 2 ^ k = z at *
  constructor
  · intro y
    rw [decide_eq_true_eq] at y
    omega
  · intro y
    rw [decide_eq_false_iff_not] at y
    omega
theorem wy_gr2 {post : Int32 → Prop} {a b : Nat} (ha : a < 32) (hb : b < 32) (hp : qa_p5 a = qa_p5 b) (h : post (qx_b (qa_w0 2 b < qa_w0 2 a))) :
    ∀ k, k ≤ 5 → (a ^^^ b) / 2 ^ k = 0 → ∀ f, k < f → wY_greater_48 post (nI a) (nI b) ysz yrm yod ywk ygc ybp ycz ybs ycp yct yrc yG yB yC yA yV yP yI f (nI k + (-1)) := by
  intro k
  induction k with
  | zero =>
    intro hk hm f hf
    obtain ⟨f, rfl⟩ : ∃ k, f = k + 1 := ⟨f - 1, by omega⟩
    rw [Nat.pow_zero, Nat.div_one] at hm
    have := qx_f6 a ha b hb hm
    subst this
    rw [qx_bf (Nat.lt_irrefl _)] at h
    exact br_t (by decide) h
  | succ k ih =>
    intro hk hm f hf
    obtain ⟨f, rfl⟩ : ∃ k, f = k + 1 := ⟨f - 1, by omega⟩
    obtain ⟨q1, q2⟩ := qy_half hm
    rw [pk_m1]
    refine br_f (nI_pos (by omega)) ?_
    rw [nx_xor]
    refine qa_br1 (by omega) (fun hz => ?_) (fun hz => nm_e (ih (by omega) ?_ f (by omega)))
    · rw [qx_btn (qx_x32 ha hb)] at hz
      have h5 := qx_f5 k (by omega) a ha b hb ⟨hp, q1 hz⟩
      refine qa_br0 (by omega) (fun hy => ?_) (fun hy => ?_)
      · rw [qx_btn ha] at hy
        rw [qx_bt (h5.mpr hy)] at h
        exact h
      · rw [qx_btn ha] at hy
        rw [qx_bf (fun y => by rw [h5.mp y] at hy; exact nomatch hy)] at h
        exact h
    · rw [qx_btn (qx_x32 ha hb)] at hz
      exact q2 hz
theorem wy_gr3 {post : Int32 → Prop} (ho : o < 3) {a b : Nat} (ha : a < 32) (hb : b < 32) (hp : o = 0 ∨ qa_p5 a = qa_p5 b) (h : post (qx_b (qa_w0 o b < qa_w0 o a))) : wY_greater_38 post (nI a) (nI b) ysz yrm (nI o) ywk ygc ybp ycz ybs ycp yct yrc yG yB yC yA yV yP yI := by
  refine pk_eq o 2 (fun e2 => ?_) (fun n2 => ?_)
  · subst e2
    have hp' : qa_p5 a = qa_p5 b := by
      rcases hp with z | z
      · exact absurd z (by decide)
      · exact z
    exact ⟨6, wy_gr2 ha hb hp' h 5 (Nat.le_refl _) (Nat.div_eq_of_lt (qx_x32 ha hb)) 6 (by omega)⟩
  · exact ⟨6, wy_gr1 (by omega) ha hb hp h 5 0 (by omega) (Nat.mod_one _) 6 (by omega)⟩
theorem wy_gr {post : Int32 → Prop} (ho : o < 3) {a b : Nat} (ha : a < 32) (hb : b < 32) (h : post (qx_b (qa_wt o 0 b < qa_wt o 0 a))) : wpY_greater post (ysz, yrm, nI o, ywk, ygc, ybp, ycz, ybs, ycp, yct, yrc, yG, yB, yC, yA, yV, yP, yI) (nI a) (nI b) := by
  rw [← qa_w0_wt ho] at h
  have pa := qa_p5_le a ha
  have pb := qa_p5_le b hb
  refine pk_eq o 0 (fun o0 => wy_gr3 ho ha hb (Or.inl o0) h) (fun o1 => wy_bi _ (wy_bi _ ?_))
  rw [qc_p5 a ha, qc_p5 b hb]
  refine pk_eq (qa_p5 a) (qa_p5 b) (fun e1 => wy_gr3 ho ha hb (Or.inr e1) h) (fun n1 => ?_)
  have h1 := qx_f1 o ho o1 a ha b hb n1
  refine pk_le (qa_p5 a) (qa_p5 b) (fun h2 => ?_) (fun h2 => ?_)
  · rw [qx_bf (fun y => by have := h1.mp y; omega)] at h
    exact h
  · rw [qx_bt (h1.mpr h2)] at h
    exact h
theorem wy_so1 {post : SY → Prop} {J : Int32 → (Nat → Int32) → (Nat → Int32) → (Nat → Int32) → (Nat → Int32) → (Nat → Int32) → (Nat → Int32) → (Nat → Int32) → Prop} (ho : o < 3) (hs : s ≤ 32) {m : Nat} (hm : m < s)
    (H : J (nI (m + 1)) yG yB yC (upd yA (qa_rk (qa_wt o 0) s m) (nI m)) yV yP yI) :
    ∀ d x, x + d = s → ∀ f, d < f → wY_sortMonomials_14 post J (nI m) (nI s) yrm (nI o) ywk ygc ybp ycz ybs ycp yct yrc yG yB yC yA yV yP yI f (nI (qa_cn (fun d => qa_wt o 0 d < qa_wt o 0 m) x)) (nI x) := by
  intro d
  induction d with
  | zero =>
    intro x hx f hf
    obtain ⟨f, rfl⟩ : ∃ k, f = k + 1 := ⟨f - 1, by omega⟩
    have ex : x = s := by omega
    subst ex
    have hr := qa_rk_lt (qa_wt o 0) hm
    show _ ∧ _
    rw [show qa_cn (fun d => qa_wt o 0 d < qa_wt o 0 m) x = qa_rk (qa_wt o 0) x m from rfl]
    exact br_t (nI_le (by omega) (by omega)) ⟨vp_in_nI (by omega) (by decide), nm_r (e' := upd yA (qa_rk (qa_wt o 0) x m) (nI m)) (by rw [nI_clamp (by omega)]) (nm_r (nI_1 m) H)⟩
  | succ d ih =>
    intro x hx f hf
    obtain ⟨f, rfl⟩ : ∃ k, f = k + 1 := ⟨f - 1, by omega⟩
    have nx := ih (x + 1) (by omega) f (by omega)
    refine br_f (nI_ge (by omega) (by omega)) (wy_gr ho (by omega) (by omega) ?_)
    by_cases c : qa_wt o 0 x < qa_wt o 0 m
    · rw [qa_cn_t (P := fun d => qa_wt o 0 d < qa_wt o 0 m) c] at nx
      rw [qx_bt c]
      exact br_f (by decide) (nm_r (nI_1 _) (nm_r (nI_1 x) nx))
    · rw [qa_cn_f (P := fun d => qa_wt o 0 d < qa_wt o 0 m) c] at nx
      rw [qx_bf c]
      exact br_t rfl (nm_r (nI_1 x) nx)
theorem wy_so2 {post : SY → Prop} (ho : o < 3) (hs : s ≤ 32)
    (H : ∀ yA : Nat → Int32, qa_As (qa_wt o 0) s yA → post (nI s, yrm, nI o, ywk, ygc, ybp, ycz, ybs, ycp, yct, yrc, yG, yB, yC, yA, yV, yP, yI)) :
    ∀ d m, m + d = s → ∀ f, d < f → ∀ yA : Nat → Int32, (∀ m', m' < m → yA (qa_rk (qa_wt o 0) s m') = nI m') → wY_sortMonomials_2 post (nI s) yrm (nI o) ywk ygc ybp ycz ybs ycp yct yrc f (nI m) yG yB yC yA yV yP yI := by
  intro d
  induction d with
  | zero =>
    intro m hm f hf yA h
    obtain ⟨f, rfl⟩ : ∃ k, f = k + 1 := ⟨f - 1, by omega⟩
    have em : m = s := by omega
    subst em
    exact br_t (nI_le (by omega) (by omega)) (H yA h)
  | succ d ih =>
    intro m hm f hf yA h
    obtain ⟨f, rfl⟩ : ∃ k, f = k + 1 := ⟨f - 1, by omega⟩
    refine br_f (nI_ge (by omega) (by omega)) ⟨s + 1, wy_so1 ho hs (by omega) ?_ s 0 (by omega) (s + 1) (by omega)⟩
    refine ih (m + 1) (by omega) f (by omega) _ fun m' hm' => ?_
    by_cases e1 : m' = m
    · rw [e1, pk_us]
    · rw [pk_un (fun z => e1 (qa_rk_inj (qa_wt_wo ho 0) hs (by omega) (by omega) z))]
      exact h m' (by omega)
theorem wy_so {post : SY → Prop} (ho : o < 3) (hs : s ≤ 32)
    (H : ∀ yA : Nat → Int32, qa_As (qa_wt o 0) s yA → post (nI s, yrm, nI o, ywk, ygc, ybp, ycz, ybs, ycp, yct, yrc, yG, yB, yC, yA, yV, yP, yI)) : wpY_sortMonomials post (nI s, yrm, nI o, ywk, ygc, ybp, ycz, ybs, ycp, yct, yrc, yG, yB, yC, yA, yV, yP, yI) :=
  ⟨s + 1, wy_so2 ho hs H s 0 (by omega) (s + 1) (by omega) yA (fun m hm => absurd hm (Nat.not_lt_zero m))⟩
/-! values -/
theorem wy_vl2 {post : Int32 → Prop} {J : Int32 → Int32 → Prop} (hs : s ≤ 32) {p : Int32} {m : Nat} (hm : m < s) (hb : bt p m = true)
    (H : ∀ v : Int32, (∀ x, bt v x = (decide (x < s) && qa_es (fun t => qa_dv t x) p (m + 1))) → J v (nI (m + 1))) :
    ∀ d y, y + d = s → ∀ f, d < f → ∀ v : Int32, (∀ x, bt v x = (decide (x < s) && qa_es (fun t => qa_dv t x) p (if x < y then m + 1 else m))) → wY_valuesOf_24 post J p (nI m) (nI s) yrm yod ywk ygc ybp ycz ybs ycp yct yrc yG yB yC yA yV yP yI f v (nI y) := by
  have est : ∀ x, qa_es (fun t => qa_dv t x) p (m + 1) = (qa_es (fun t => qa_dv t x) p m ^^ qa_dv m x) := by
    intro x
    show (qa_es (fun t => qa_dv t x) p m ^^ (bt p m && qa_dv m x)) = _
    rw [hb, Bool.true_and]
  intro d
  induction d with
  | zero =>
    intro y hy f hf v h
    obtain ⟨f, rfl⟩ : ∃ k, f = k + 1 := ⟨f - 1, by omega⟩
    refine br_t (nI_le (by omega) (by omega)) (nm_r (nI_1 m) (H v fun x => ?_))
    rw [h x]
    by_cases c : x < s
    · rw [if_pos (by omega)]
    · rw [decide_eq_false c, Bool.false_and, Bool.false_and]
  | succ d ih =>
    intro y hy f hf v h
    obtain ⟨f, rfl⟩ : ∃ k, f = k + 1 := ⟨f - 1, by omega⟩
    refine br_f (nI_ge (by omega) (by omega)) (qx_dvb (a := m) rfl (by omega) (fun hd => nm_e (nm_r (nI_1 y) (ih (y + 1) (by omega) f (by omega) _ fun x => ?_))) (fun hd => nm_r (nI_1 y) (ih (y + 1) (by omega) f (by omega) v fun x => ?_)))
    · show bt (v ^^^ qa_mo y) x = _
      rw [b_xor, h x, qa_bm (by omega)]
      by_cases e : x = y
      · rw [e, if_neg (Nat.lt_irrefl y), if_pos (Nat.lt_succ_self y), est y, qa_dv_t.mpr hd, decide_eq_true (show y < s by omega), decide_eq_true rfl]
        rfl
      · rw [decide_eq_false e, Bool.xor_false]
        by_cases c : x < y
        · rw [if_pos c, if_pos (by omega)]
        · rw [if_neg c, if_neg (by omega)]
    · rw [h x]
      by_cases e : x = y
      · rw [e, if_neg (Nat.lt_irrefl y), if_pos (Nat.lt_succ_self y), est y, qa_dv_f.mpr hd, Bool.xor_false]
      · by_cases c : x < y
        · rw [if_pos c, if_pos (by omega)]
        · rw [if_neg c, if_neg (by omega)]
theorem wy_vl {post : Int32 → Prop} (hs : s ≤ 32) {p : Int32} (hp : qa_in s p) (h : post (qy_vl s p)) : wpY_valuesOf post (nI s, yrm, yod, ywk, ygc, ybp, ycz, ybs, ycp, yct, yrc, yG, yB, yC, yA, yV, yP, yI) p := by
  have key : ∀ d m, m + d = s → ∀ f, d < f → ∀ v : Int32, (∀ x, bt v x = (decide (x < s) && qa_es (fun t => qa_dv t x) p m)) → wY_valuesOf_4 post p (nI s) yrm yod ywk ygc ybp ycz ybs ycp yct yrc yG yB yC yA yV yP yI f v (nI m) := by
    intro d
    induction d with
    | zero =>
      intro m hm f hf v hv
      obtain ⟨f, rfl⟩ : ∃ k, f = k + 1 := ⟨f - 1, by omega⟩
      have em : m = s := by omega
      subst em
      have e : v = qy_vl m p := by
        apply b_ext
        intro i _
        rw [hv i, qy_vl_bt hs]
        unfold qa_ev
        rw [show 32 = m + (32 - m) by omega, qa_es_up hp]
      rw [e]
      exact br_t (nI_le (by omega) (by omega)) h
    | succ d ih =>
      intro m hm f hf v hv
      obtain ⟨f, rfl⟩ : ∃ k, f = k + 1 := ⟨f - 1, by omega⟩
      refine br_f (nI_ge (by omega) (by omega)) (qa_br1 (by omega) (fun hb => ⟨s + 1, wy_vl2 hs (by omega) hb (fun v' hv' => ih (m + 1) (by omega) f (by omega) v' hv') s 0 (by omega) (s + 1) (by omega) v fun x => ?_⟩) (fun hb => nm_r (nI_1 m) (ih (m + 1) (by omega) f (by omega) v fun x => ?_)))
      · rw [if_neg (Nat.not_lt_zero x)]; exact hv x
      · rw [hv x]
        show _ = (decide (x < s) && (qa_es (fun t => qa_dv t x) p m ^^ (bt p m && qa_dv m x)))
        rw [hb, Bool.false_and, Bool.xor_false]
  refine ⟨s + 1, key s 0 (by omega) (s + 1) (by omega) 0 fun x => ?_⟩
  rw [b_0]
  show _ = (decide (x < s) && false)
  rw [Bool.and_false]
/-! products -/
theorem wy_pr2 {post : Int32 → Prop} {J : Int32 → Int32 → Prop} (hs : s ≤ 32) {p q : Int32} (hq : qa_in s q) {a : Nat} (ha : a < s) (hb : bt p a = true) {r0 : Int32} (H : J (r0 ^^^ qa_mul q a) (nI (a + 1))) :
    ∀ d b, b + d = s → ∀ f, d < f → wY_product_17 post J p q (nI a) (nI s) yrm yod ywk ygc ybp ycz ybs ycp yct yrc yG yB yC yA yV yP yI f (r0 ^^^ qa_ls (fun t => qa_mo (t ||| a)) q b) (nI b) := by
  intro d
  induction d with
  | zero =>
    intro b hb' f hf
    obtain ⟨f, rfl⟩ : ∃ k, f = k + 1 := ⟨f - 1, by omega⟩
    have e : qa_ls (fun t => qa_mo (t ||| a)) q b = qa_mul q a := by
      apply b_ext
      intro i _
      unfold qa_mul
      rw [qa_ls_bt, qa_ls_bt, show 32 = b + (32 - b) by omega, qa_es_up (fun m hm => by have := hq m hm; omega)]
    rw [e]
    exact br_t (nI_le (by omega) (by omega)) (nm_r (nI_1 a) H)
  | succ d ih =>
    intro b hb' f hf
    obtain ⟨f, rfl⟩ : ∃ k, f = k + 1 := ⟨f - 1, by omega⟩
    have nx := ih (b + 1) (by omega) f (by omega)
    refine br_f (nI_ge (by omega) (by omega)) (qa_br1 (by omega) (fun _ => qa_br1 (by omega) (fun hz => nm_r (e' := r0 ^^^ qa_ls (fun t => qa_mo (t ||| a)) q (b + 1)) ?_ (nm_r (nI_1 b) nx)) (fun hz => nm_r (nI_1 b) ?_)) (fun hz => ?_))
    · rw [qa_ls_t hz, qx_or, ← qa_xa, Nat.or_comm a b]
      rfl
    · rw [qa_ls_f hz] at nx
      exact nx
    · rw [hb] at hz
      exact nomatch hz
theorem wy_pr0 {post : Int32 → Prop} {J : Int32 → Int32 → Prop} (hs : s ≤ 32) {p q : Int32} {a : Nat} (ha : a < s) (hb : bt p a = false) {r0 : Int32} (H : J r0 (nI (a + 1))) :
    ∀ d b, b + d = s → ∀ f, d < f → wY_product_17 post J p q (nI a) (nI s) yrm yod ywk ygc ybp ycz ybs ycp yct yrc yG yB yC yA yV yP yI f r0 (nI b) := by
  intro d
  induction d with
  | zero =>
    intro b hb' f hf
    obtain ⟨f, rfl⟩ : ∃ k, f = k + 1 := ⟨f - 1, by omega⟩
    exact br_t (nI_le (by omega) (by omega)) (nm_r (nI_1 a) H)
  | succ d ih =>
    intro b hb' f hf
    obtain ⟨f, rfl⟩ : ∃ k, f = k + 1 := ⟨f - 1, by omega⟩
    refine br_f (nI_ge (by omega) (by omega)) (qa_br1 (by omega) (fun hz => ?_) (fun hz => nm_r (nI_1 b) (ih (b + 1) (by omega) f (by omega))))
    rw [hb] at hz
    exact nomatch hz
theorem wy_pr {post : Int32 → Prop} (hs : s ≤ 32) {p q : Int32} (hp : qa_in s p) (hq : qa_in s q) (h : post (qa_pr p q)) : wpY_product post (nI s, yrm, yod, ywk, ygc, ybp, ycz, ybs, ycp, yct, yrc, yG, yB, yC, yA, yV, yP, yI) p q := by
  have key : ∀ d a, a + d = s → ∀ f, d < f → wY_product_5 post p q (nI s) yrm yod ywk ygc ybp ycz ybs ycp yct yrc yG yB yC yA yV yP yI f (qa_ls (fun m => qa_mul q m) p a) (nI a) := by
    intro d
    induction d with
    | zero =>
      intro k hk f hf
      obtain ⟨f, rfl⟩ : ∃ k, f = k + 1 := ⟨f - 1, by omega⟩
      have e : qa_ls (fun m => qa_mul q m) p k = qa_pr p q := by
        apply b_ext
        intro i _
        unfold qa_pr
        rw [qa_ls_bt, qa_ls_bt, show 32 = k + (32 - k) by omega, qa_es_up (fun m hm => by have := hp m hm; omega)]
      rw [e]
      exact br_t (nI_le (by omega) (by omega)) h
    | succ d ih =>
      intro k hk f hf
      obtain ⟨f, rfl⟩ : ∃ k, f = k + 1 := ⟨f - 1, by omega⟩
      have nx := ih (k + 1) (by omega) f (by omega)
      refine br_f (nI_ge (by omega) (by omega)) ⟨s + 1, ?_⟩
      cases hb : bt p k
      · rw [qa_ls_f hb] at nx
        exact wy_pr0 hs (by omega) hb nx s 0 (by omega) (s + 1) (by omega)
      · rw [qa_ls_t hb] at nx
        have := wy_pr2 (yrm := yrm) (yod := yod) (ywk := ywk) (ygc := ygc) (ybp := ybp) (ycz := ycz) (ybs := ybs) (ycp := ycp) (yct := yct) (yrc := yrc) (yG := yG) (yB := yB) (yC := yC) (yA := yA) (yV := yV) (yP := yP) (yI := yI) (post := post) hs hq (by omega) hb nx s 0 (by omega) (s + 1) (by omega)
        rw [show qa_ls (fun t => qa_mo (t ||| k)) q 0 = 0 from rfl, qa_x0] at this
        exact this
  exact ⟨s + 1, key s 0 (by omega) (s + 1) (by omega)⟩
/-! common zeros -/
theorem wy_cz {post : Int32 → Prop} (hs : s ≤ 32) {k : Nat} (hk : k ≤ 8) (hG : ∀ i, i < k → qa_in s (yG i)) (h : post (qy_cz s yG k)) : wpY_commonZeros post (nI s, yrm, yod, ywk, ygc, ybp, ycz, ybs, ycp, yct, yrc, yG, yB, yC, yA, yV, yP, yI) (nI k) := by
  have k2 : ∀ d i, i + d = k → ∀ f, d < f → wY_commonZeros_26 post (nI k) (nI s) yrm yod ywk ygc ybp ycz ybs ycp yct yrc yG yB yC yA yV yP yI f (qy_cz s yG i) (nI i) := by
    intro d
    induction d with
    | zero =>
      intro i hi f hf
      obtain ⟨f, rfl⟩ : ∃ k, f = k + 1 := ⟨f - 1, by omega⟩
      have ei : i = k := by omega
      subst ei
      exact br_t (nI_le (by omega) (by omega)) h
    | succ d ih =>
      intro i hi f hf
      obtain ⟨f, rfl⟩ : ∃ k, f = k + 1 := ⟨f - 1, by omega⟩
      refine br_f (nI_ge (by omega) (by omega)) (br_f (nI_ge (b := 8) (by omega) (by omega)) ⟨vp_in_nI (by omega) (by decide), ?_⟩)
      rw [nI_clamp (n := i) (by omega)]
      refine wy_vl hs (hG i (by omega)) (nm_r (e' := qy_cz s yG (i + 1)) ?_ (nm_r (nI_1 i) (ih (i + 1) (by omega) f (by omega))))
      apply b_ext
      intro x hx
      rw [b_and, b_xor, b_m1 x hx, qy_vl_bt hs]
      unfold qy_cz
      rw [qx_mk_bt _ s hs, qx_mk_bt _ s hs]
      show _ = (decide (x < s) && (qy_al (fun i => !qa_ev (yG i) x) i && !qa_ev (yG i) x))
      cases decide (x < s) <;> cases qy_al (fun i => !qa_ev (yG i) x) i <;> cases qa_ev (yG i) x <;> rfl
  have k1 : ∀ d x, x + d = s → ∀ f, d < f → wY_commonZeros_4 post (nI k) (nI s) yrm yod ywk ygc ybp ycz ybs ycp yct yrc yG yB yC yA yV yP yI f (qx_mk (fun _ => true) x) (nI x) := by
    intro d
    induction d with
    | zero =>
      intro x hx f hf
      obtain ⟨f, rfl⟩ : ∃ k, f = k + 1 := ⟨f - 1, by omega⟩
      have ex : x = s := by omega
      subst ex
      exact br_t (nI_le (by omega) (by omega)) ⟨k + 1, k2 k 0 (by omega) (k + 1) (by omega)⟩
    | succ d ih =>
      intro x hx f hf
      obtain ⟨f, rfl⟩ : ∃ k, f = k + 1 := ⟨f - 1, by omega⟩
      exact br_f (nI_ge (by omega) (by omega)) (nm_e (nm_r (nI_1 x) (ih (x + 1) (by omega) f (by omega))))
  exact ⟨s + 1, k1 s 0 (by omega) (s + 1) (by omega)⟩
end
end
section
/-! ===== the reference: rows ===== -/
theorem qy_low {v : Int32} (h : ¬ v = 0) : ∃ k, k < 32 ∧ v &&& (-v) = qa_mo k ∧ bt v k = true := by
  obtain ⟨k, hk, hl⟩ := pk_least (fun k => bt v k = true) (qa_nz h)
  have k32 := qa_lt hk
  refine ⟨k, k32, ?_, hk⟩
  apply b_ext
  intro i hi
  rw [b_and, qa_bm k32]
  have e1 : bt (-v) i = (bt v i ^^ (decide (i < 32) && decide (∃ j, j < i ∧ v.toBitVec.getLsbD j = true))) := by
    show (-v).toBitVec.getLsbD i = _
    rw [Int32.toBitVec_neg, BitVec.getLsbD_neg]
    rfl
  rw [e1, decide_eq_true hi, Bool.true_and]
  by_cases ei : i = k
  · rw [ei, hk, decide_eq_true rfl, decide_eq_false (fun ⟨j, hj, hb⟩ => hl j hj hb)]
    rfl
  · rw [decide_eq_false ei]
    cases e2 : bt v i
    · rfl
    · have : k < i := by
        rcases Nat.lt_or_ge k i with z | z
        · exact z
        · exact absurd e2 (hl i (by omega))
      rw [decide_eq_true ⟨k, this, hk⟩]
      rfl
theorem qy_pv {v : Int32} {k : Nat} (hk : k < 32) : (v &&& qa_mo k) = 0 ↔ bt v k = false := by
  constructor
  · intro h
    have h1 : bt (v &&& qa_mo k) k = false := by rw [h]; exact b_0 k
    rw [b_and, qa_bm hk, decide_eq_true rfl, Bool.and_true] at h1
    exact h1
  · intro h
    apply b_ext
    intro i _
    rw [b_and, qa_bm hk, b_0]
    by_cases e : i = k
    · rw [e, h]; rfl
    · rw [decide_eq_false e, Bool.and_false]
/-- the values of p on the points of z -/
def qy_ms (s : Nat) (z p : Int32) : Int32 := qy_vl s p &&& z
theorem qy_ms_bt {s : Nat} (hs : s ≤ 32) (z p : Int32) (x : Nat) : bt (qy_ms s z p) x = ((decide (x < s) && qa_ev p x) && bt z x) := by
  unfold qy_ms
  rw [b_and, qy_vl_bt hs]
theorem qy_ms_x {s : Nat} (hs : s ≤ 32) (z p q : Int32) : qy_ms s z (p ^^^ q) = qy_ms s z p ^^^ qy_ms s z q := by
  apply b_ext
  intro i _
  rw [b_xor, qy_ms_bt hs, qy_ms_bt hs, qy_ms_bt hs, qa_ev_xor]
  cases decide (i < s) <;> cases qa_ev p i <;> cases qa_ev q i <;> cases bt z i <;> rfl
theorem qy_ms_0 {s : Nat} (hs : s ≤ 32) (z : Int32) : qy_ms s z 0 = 0 := by
  apply b_ext
  intro i _
  rw [qy_ms_bt hs, qa_ev_0, b_0, Bool.and_false, Bool.false_and]
def qy_Z (z : Int32) (x : Nat) : Prop := bt z x = true
theorem qy_van {s : Nat} (hs : s ≤ 32) (z p : Int32) : qa_van s (qy_Z z) p ↔ qy_ms s z p = 0 := by
  constructor
  · intro h
    apply b_ext
    intro i _
    rw [qy_ms_bt hs, b_0]
    by_cases c : i < s
    · cases e : bt z i
      · rw [Bool.and_false]
      · rw [h i c e, Bool.and_false, Bool.false_and]
    · rw [decide_eq_false c, Bool.false_and, Bool.false_and]
  · intro h x hx hz
    have h1 : bt (qy_ms s z p) x = false := by rw [h]; exact b_0 x
    rw [qy_ms_bt hs, decide_eq_true hx, Bool.true_and] at h1
    have hz' : bt z x = true := hz
    rw [hz', Bool.and_true] at h1
    exact h1
/-! reduction by rows -/
def qy_rd (rv : Nat → Int32) (pv : Nat → Nat) : Nat → Int32 → Int32
  | 0, v => v
  | k + 1, v => if bt (qy_rd rv pv k v) (pv k) then qy_rd rv pv k v ^^^ rv k else qy_rd rv pv k v
theorem qy_rd_t {rv : Nat → Int32} {pv : Nat → Nat} {k : Nat} {v : Int32} (h : bt (qy_rd rv pv k v) (pv k) = true) : qy_rd rv pv (k + 1) v = qy_rd rv pv k v ^^^ rv k := if_pos h
theorem qy_rd_f {rv : Nat → Int32} {pv : Nat → Nat} {k : Nat} {v : Int32} (h : bt (qy_rd rv pv k v) (pv k) = false) : qy_rd rv pv (k + 1) v = qy_rd rv pv k v := if_neg (by rw [h]; decide)
theorem qy_rd_x (rv : Nat → Int32) (pv : Nat → Nat) (a b : Int32) : ∀ k, qy_rd rv pv k (a ^^^ b) = qy_rd rv pv k a ^^^ qy_rd rv pv k b
  | 0 => rfl
  | k + 1 => by
    have ih := qy_rd_x rv pv a b k
    have e : bt (qy_rd rv pv k (a ^^^ b)) (pv k) = (bt (qy_rd rv pv k a) (pv k) ^^ bt (qy_rd rv pv k b) (pv k)) := by rw [ih, b_xor]
    cases ha : bt (qy_rd rv pv k a) (pv k)
    · cases hb : bt (qy_rd rv pv k b) (pv k)
      · rw [qy_rd_f ha, qy_rd_f hb, qy_rd_f (by rw [e, ha, hb]; rfl), ih]
      · rw [qy_rd_f ha, qy_rd_t hb, qy_rd_t (by rw [e, ha, hb]; rfl), ih, qa_xa]
    · cases hb : bt (qy_rd rv pv k b) (pv k)
      · rw [qy_rd_t ha, qy_rd_f hb, qy_rd_t (by rw [e, ha, hb]; rfl), ih, qa_xa, qa_xa, qa_xc (rv k)]
      · rw [qy_rd_t ha, qy_rd_t hb, qy_rd_f (by rw [e, ha, hb]; rfl), ih, qa_xa, ← qa_xa (rv k), qa_xc (rv k), qa_xk]
theorem qy_rd_0 (rv : Nat → Int32) (pv : Nat → Nat) : ∀ k, qy_rd rv pv k 0 = 0
  | 0 => rfl
  | k + 1 => by
    have ih := qy_rd_0 rv pv k
    rw [qy_rd_f (by rw [ih]; exact b_0 _), ih]
theorem qy_rd_cg {rv rv' : Nat → Int32} {pv pv' : Nat → Nat} (v : Int32) : ∀ k, (∀ i, i < k → rv' i = rv i ∧ pv' i = pv i) → qy_rd rv' pv' k v = qy_rd rv pv k v
  | 0, _ => rfl
  | k + 1, h => by
    have ih := qy_rd_cg (rv := rv) (rv' := rv') (pv := pv) (pv' := pv') v k (fun i hi => h i (by omega))
    show (if bt (qy_rd rv' pv' k v) (pv' k) then qy_rd rv' pv' k v ^^^ rv' k else qy_rd rv' pv' k v) = (if bt (qy_rd rv pv k v) (pv k) then qy_rd rv pv k v ^^^ rv k else qy_rd rv pv k v)
    rw [ih, (h k (by omega)).1, (h k (by omega)).2]
/-- the rows made out of the ranks below r -/
def qy_R (w : Nat → Nat) (s : Nat) (z : Int32) (r k : Nat) (rv rp ri : Nat → Int32) (pv : Nat → Nat) : Prop :=
  k ≤ r ∧
  (∀ i, i < k → qa_in s (rp i) ∧ qy_ms s z (rp i) = rv i ∧ (∀ t, bt (rp i) t = true → qa_std w s (qy_Z z) t ∧ ∃ q, q < r ∧ t = qa_od w s q) ∧ ri i = qa_mo (pv i) ∧ pv i < 32 ∧ bt (rv i) (pv i) = true) ∧
  (∀ i j, i < j → j < k → bt (rv j) (pv i) = false) ∧
  (∀ q, q < r → qy_rd rv pv k (qy_ms s z (qa_mo (qa_od w s q))) = 0)
section
variable {w : Nat → Nat} {s r k : Nat} {z : Int32} {rv rp ri : Nat → Int32} {pv : Nat → Nat}
theorem qy_R_0 (hs : s ≤ 32) : qy_R w s z 0 0 rv rp ri pv :=
  ⟨Nat.le_refl _, fun i hi => absurd hi (Nat.not_lt_zero i), fun i j _ hj => absurd hj (Nat.not_lt_zero j), fun q hq => absurd hq (Nat.not_lt_zero q)⟩
theorem qy_rd_pv (h : qy_R w s z r k rv rp ri pv) (v : Int32) : ∀ j, j ≤ k → ∀ i, i < j → bt (qy_rd rv pv j v) (pv i) = false := by
  intro j
  induction j with
  | zero => intro _ i hi; omega
  | succ j ih =>
    intro hj i hi
    have ih' := ih (by omega)
    cases hb : bt (qy_rd rv pv j v) (pv j)
    · rw [qy_rd_f hb]
      by_cases e : i = j
      · rw [e]; exact hb
      · exact ih' i (by omega)
    · rw [qy_rd_t hb, b_xor]
      by_cases e : i = j
      · rw [e, hb, (h.2.1 j (by omega)).2.2.2.2.2]; rfl
      · rw [ih' i (by omega), h.2.2.1 i j (by omega) (by omega)]; rfl
/-- what has only monomials of the ranks below r reduces to zero -/
theorem qy_rd_all (hs : s ≤ 32) (h : qy_R w s z r k rv rp ri pv) {f : Int32} (hf : ∀ t, bt f t = true → ∃ q, q < r ∧ t = qa_od w s q) : qy_rd rv pv k (qy_ms s z f) = 0 := by
  refine qa_ind (P := fun g => qy_rd rv pv k (qy_ms s z g) = 0) f ?_ ?_
  · show qy_rd rv pv k (qy_ms s z 0) = 0
    rw [qy_ms_0 hs, qy_rd_0]
  · intro g m _ hb ih
    show qy_rd rv pv k (qy_ms s z (g ^^^ qa_mo m)) = 0
    obtain ⟨q, hq, em⟩ := hf m hb
    rw [qy_ms_x hs, qy_rd_x, ih, em, h.2.2.2 q hq, qa_xx]
theorem qy_R_skip (h : qy_R w s z r k rv rp ri pv) (hv : qy_rd rv pv k (qy_ms s z (qa_mo (qa_od w s r))) = 0) : qy_R w s z (r + 1) k rv rp ri pv := by
  refine ⟨by have := h.1; omega, fun i hi => ?_, h.2.2.1, fun q hq => ?_⟩
  · obtain ⟨h1, h2, h3, h4⟩ := h.2.1 i hi
    refine ⟨h1, h2, fun t ht => ?_, h4⟩
    obtain ⟨g1, q, g2, g3⟩ := h3 t ht
    exact ⟨g1, q, by omega, g3⟩
  · by_cases e : q = r
    · rw [e]; exact hv
    · exact h.2.2.2 q (by omega)
theorem qy_R_add (hw : qa_wo w) (hs : s ≤ 32) (hr : r < s) (h : qy_R w s z r k rv rp ri pv) {p v : Int32} (hv : v = qy_rd rv pv k (qy_ms s z (qa_mo (qa_od w s r)))) (hne : ¬ v = 0) (hp : qa_in s p) (hm : qy_ms s z p = v)
    (hb : ∀ t, bt p t = true → t = qa_od w s r ∨ (qa_std w s (qy_Z z) t ∧ ∃ q, q < r ∧ t = qa_od w s q)) {b : Nat} (hb32 : b < 32) (hbv : bt v b = true) :
    qy_R w s z (r + 1) (k + 1) (upd rv k v) (upd rp k p) (upd ri k (qa_mo b)) (qx_l pv k b) := by
  have ecg : ∀ u, qy_rd (upd rv k v) (qx_l pv k b) k u = qy_rd rv pv k u := fun u => qy_rd_cg u k fun i hi => ⟨pk_un (by omega), qx_l_n pv hi⟩
  have hstd : qa_std w s (qy_Z z) (qa_od w s r) := by
    intro f hf hl hvan
    apply hne
    have e1 := (qy_van hs z f).mp hvan
    have m32 := qa_lt hl.1
    have e2 := qy_rd_all (f := f ^^^ qa_mo (qa_od w s r)) hs h (by
      intro t ht
      obtain ⟨t1, t2⟩ := qa_tail hl.1 ht
      have t3 := qa_ld_lt hw hl t1 t2
      have ts := hf t t1
      refine ⟨qa_rk w s t, ?_, (qa_od_rk hw hs ts).symm⟩
      have g := qa_rk_mono (w := w) ts t3
      rw [(qa_od_s hw hs hr).2] at g
      exact g)
    rw [qy_ms_x hs, e1, qa_0x, ← hv] at e2
    exact e2
  refine ⟨by have := h.1; omega, fun i hi => ?_, fun i j hij hj => ?_, fun q hq => ?_⟩
  · by_cases ei : i = k
    · rw [ei, pk_us, pk_us, pk_us, qx_l_t]
      refine ⟨hp, hm, fun t ht => ?_, rfl, hb32, hbv⟩
      rcases hb t ht with g | ⟨g1, q, g2, g3⟩
      · exact ⟨by rw [g]; exact hstd, r, by omega, g⟩
      · exact ⟨g1, q, by omega, g3⟩
    · rw [pk_un ei, pk_un ei, pk_un ei, qx_l_n pv (by omega)]
      obtain ⟨h1, h2, h3, h4⟩ := h.2.1 i (by omega)
      refine ⟨h1, h2, fun t ht => ?_, h4⟩
      obtain ⟨g1, q, g2, g3⟩ := h3 t ht
      exact ⟨g1, q, by omega, g3⟩
  · rw [qx_l_n pv (by omega)]
    by_cases ej : j = k
    · rw [ej, pk_us, hv]
      exact qy_rd_pv h _ k (Nat.le_refl _) i (by omega)
    · rw [pk_un ej]
      exact h.2.2.1 i j hij (by omega)
  · by_cases e : q = r
    · have e1 : bt (qy_rd (upd rv k v) (qx_l pv k b) k (qy_ms s z (qa_mo (qa_od w s q)))) (qx_l pv k b k) = true := by
        rw [ecg, e, ← hv, qx_l_t]; exact hbv
      rw [qy_rd_t e1, ecg, e, ← hv, pk_us, qa_xx]
    · have e0 := h.2.2.2 q (by omega)
      have e1 : bt (qy_rd (upd rv k v) (qx_l pv k b) k (qy_ms s z (qa_mo (qa_od w s q)))) (qx_l pv k b k) = false := by
        rw [ecg, e0]; exact b_0 _
      rw [qy_rd_f e1, ecg, e0]
end
section
variable {ysz yrm yod ywk ygc ybp ycz ybs ycp yct yrc : Int32} {yG yB yC yA yV yP yI : Nat → Int32} {s : Nat} {w : Nat → Nat} {z : Int32}
theorem wy_mr2 {post : SY → Prop} {J : Int32 → Int32 → (Nat → Int32) → (Nat → Int32) → (Nat → Int32) → (Nat → Int32) → (Nat → Int32) → (Nat → Int32) → (Nat → Int32) → Prop} {r k : Nat} {pv : Nat → Nat} (hw : qa_wo w) (hs : s ≤ 32) (hr : r < s) (h : qy_R w s z r k yV yP yI pv)
    (H : ∀ (k : Nat) (yV yP yI : Nat → Int32) (pv : Nat → Nat), qy_R w s z (r + 1) k yV yP yI pv → J (nI (r + 1)) (nI k) yG yB yC yA yV yP yI) :
    ∀ d i, i + d = k → ∀ f, d < f → ∀ p v : Int32, v = qy_rd yV pv i (qy_ms s z (qa_mo (qa_od w s r))) → qa_in s p → qy_ms s z p = v → (∀ t, bt p t = true → t = qa_od w s r ∨ (qa_std w s (qy_Z z) t ∧ ∃ q, q < r ∧ t = qa_od w s q)) →
      wY_makeRows_36 post J z (nI r) (nI s) yrm yod ywk ygc ybp ycz ybs ycp yct (nI k) yG yB yC yA yV yP yI f p v (nI i) := by
  have hk := h.1
  intro d
  induction d with
  | zero =>
    intro i hi f hf p v hv hp hm hb
    obtain ⟨f, rfl⟩ : ∃ k, f = k + 1 := ⟨f - 1, by omega⟩
    have ei : i = k := by omega
    subst ei
    refine br_t (nI_le (by omega) (by omega)) (br_c (fun v0 => nm_r (nI_1 r) (H i yV yP yI pv (qy_R_skip h (by rw [← hv]; exact v0)))) (fun v0 => ?_))
    have vk : vp_in (nI i) 32 := vp_in_nI (by omega) (by decide)
    have c1 : (nI i).toNatClampNeg = i := nI_clamp (by omega)
    obtain ⟨b, hb32, hb1, hb2⟩ := qy_low v0
    refine ⟨vk, nm_r (e' := upd yV i v) (by rw [c1]) ⟨vk, nm_r (e' := upd yP i p) (by rw [c1]) ⟨vk, nm_r (e' := upd yI i (qa_mo b)) (by rw [c1, hb1]) (nm_r (nI_1 i) (nm_r (nI_1 r) (H (i + 1) _ _ _ (qx_l pv i b) ?_)))⟩⟩⟩
    exact qy_R_add hw hs hr h hv v0 hp hm hb hb32 hb2
  | succ d ih =>
    intro i hi f hf p v hv hp hm hb
    obtain ⟨f, rfl⟩ : ∃ k, f = k + 1 := ⟨f - 1, by omega⟩
    have vi : vp_in (nI i) 32 := vp_in_nI (by omega) (by decide)
    have c1 : (nI i).toNatClampNeg = i := nI_clamp (by omega)
    obtain ⟨g1, g2, g3, g4, g5, g6⟩ := h.2.1 i (by omega)
    refine br_f (nI_ge (by omega) (by omega)) ⟨vi, ?_⟩
    rw [c1, g4]
    refine br_c (fun hz => nm_r (nI_1 i) (ih (i + 1) (by omega) f (by omega) p v ?_ hp hm hb)) (fun hz => ⟨vi, nm_e ⟨vi, nm_e (nm_r (nI_1 i) (ih (i + 1) (by omega) f (by omega) _ _ ?_ (qa_in_xor hp g1) ?_ ?_))⟩⟩)
    · rw [qy_pv g5, hv] at hz
      rw [qy_rd_f hz]; exact hv
    · have hz' : bt (qy_rd yV pv i (qy_ms s z (qa_mo (qa_od w s r)))) (pv i) = true := by
        cases e : bt (qy_rd yV pv i (qy_ms s z (qa_mo (qa_od w s r)))) (pv i)
        · exact absurd ((qy_pv g5).mpr (by rw [hv]; exact e)) hz
        · rfl
      rw [qy_rd_t hz', hv]
    · rw [qy_ms_x hs, hm, g2]
    · intro t ht
      rw [b_xor] at ht
      cases e : bt p t
      · rw [e, Bool.false_xor] at ht
        exact Or.inr (g3 t ht)
      · exact hb t e
theorem wy_mr {post : SY → Prop} (hw : qa_wo w) (hs : s ≤ 32) (hA : qa_As w s yA)
    (H : ∀ (k : Nat) (yV yP yI : Nat → Int32) (pv : Nat → Nat), qy_R w s z s k yV yP yI pv → post (nI s, yrm, yod, ywk, ygc, ybp, ycz, ybs, ycp, yct, nI k, yG, yB, yC, yA, yV, yP, yI)) : wpY_makeRows post (nI s, yrm, yod, ywk, ygc, ybp, ycz, ybs, ycp, yct, yrc, yG, yB, yC, yA, yV, yP, yI) z := by
  have key : ∀ d r, r + d = s → ∀ f, d < f → ∀ (k : Nat) (yV yP yI : Nat → Int32) (pv : Nat → Nat), qy_R w s z r k yV yP yI pv → wY_makeRows_7 post z (nI s) yrm yod ywk ygc ybp ycz ybs ycp yct f (nI r) (nI k) yG yB yC yA yV yP yI := by
    intro d
    induction d with
    | zero =>
      intro r hr f hf k yV yP yI pv h
      obtain ⟨f, rfl⟩ : ∃ k, f = k + 1 := ⟨f - 1, by omega⟩
      have er : r = s := by omega
      subst er
      exact br_t (nI_le (by omega) (by omega)) (H k yV yP yI pv h)
    | succ d ih =>
      intro r hr f hf k yV yP yI pv h
      obtain ⟨f, rfl⟩ : ∃ k, f = k + 1 := ⟨f - 1, by omega⟩
      have hrs : r < s := by omega
      obtain ⟨ms, mr⟩ := qa_od_s hw hs hrs
      have eA : yA (nI r).toNatClampNeg = nI (qa_od w s r) := by rw [nI_clamp (by omega)]; exact qa_As_r hw hs hA hrs
      have hk := h.1
      refine br_f (nI_ge (by omega) (by omega)) ⟨vp_in_nI (by omega) (by decide), nm_r (e' := qa_mo (qa_od w s r)) (by rw [eA]; rfl) (wy_vl hs (qa_in_mo hs ms) (nm_e ⟨k + 1, wy_mr2 hw hs hrs h (fun k' yV' yP' yI' pv' h' => ih (r + 1) (by omega) f (by omega) k' yV' yP' yI' pv' h') k 0 (by omega) (k + 1) (by omega) _ _ rfl (qa_in_mo hs ms) rfl ?_⟩))⟩
      intro t ht
      rw [qa_bm (by omega), decide_eq_true_eq] at ht
      exact Or.inl ht
  exact ⟨s + 1, key s 0 (by omega) (s + 1) (by omega) 0 yV yP yI (fun _ => 0) (qy_R_0 hs)⟩
theorem wy_br2 {k : Nat} {pv : Nat → Nat} (hs : s ≤ 32) (h : qy_R w s z s k yV yP yI pv) {q : Int32} (h0 : qy_rd yV pv k (qy_ms s z q) = 0) :
    ∀ d i, i + d = k → ∀ p v : Int32, v = qy_rd yV pv i (qy_ms s z q) → qa_in s p → qy_ms s z p = qy_ms s z q ^^^ v → (∀ t, bt p t = true → qa_std w s (qy_Z z) t) →
      ∃ r, qa_nf w s (qy_Z z) q r ∧ ∀ post : Int32 → Prop, post r → ∀ f, d < f → wY_byRows_14 post ysz yrm yod ywk ygc ybp ycz ybs ycp yct (nI k) yG yB yC yA yV yP yI f v p (nI i) := by
  have hk := h.1
  intro d
  induction d with
  | zero =>
    intro i hi p v hv hp hm hb
    have ei : i = k := by omega
    subst ei
    refine ⟨p, ⟨hp, ?_, hb⟩, fun post hpost f hf => ?_⟩
    · rw [qy_van hs, qy_ms_x hs, hm, hv, h0, qa_x0, qa_xx]
    · obtain ⟨f, rfl⟩ : ∃ k, f = k + 1 := ⟨f - 1, by omega⟩
      exact br_t (nI_le (by omega) (by omega)) hpost
  | succ d ih =>
    intro i hi p v hv hp hm hb
    obtain ⟨g1, g2, g3, g4, g5, g6⟩ := h.2.1 i (by omega)
    have vi : vp_in (nI i) 32 := vp_in_nI (by omega) (by decide)
    have c1 : (nI i).toNatClampNeg = i := nI_clamp (by omega)
    cases hz : bt (qy_rd yV pv i (qy_ms s z q)) (pv i)
    · obtain ⟨r, hr1, hr2⟩ := ih (i + 1) (by omega) p v (by rw [qy_rd_f hz]; exact hv) hp hm hb
      refine ⟨r, hr1, fun post hpost f hf => ?_⟩
      obtain ⟨f, rfl⟩ : ∃ k, f = k + 1 := ⟨f - 1, by omega⟩
      refine br_f (nI_ge (by omega) (by omega)) ⟨vi, ?_⟩
      rw [c1, g4]
      exact br_t ((qy_pv g5).mpr (by rw [hv]; exact hz)) (nm_r (nI_1 i) (hr2 post hpost f (by omega)))
    · obtain ⟨r, hr1, hr2⟩ := ih (i + 1) (by omega) (p ^^^ yP i) (v ^^^ yV i) (by rw [qy_rd_t hz, hv]) (qa_in_xor hp g1) (by rw [qy_ms_x hs, hm, g2, qa_xa]) (by
        intro t ht
        rw [b_xor] at ht
        cases e : bt p t
        · rw [e, Bool.false_xor] at ht
          exact (g3 t ht).1
        · exact hb t e)
      refine ⟨r, hr1, fun post hpost f hf => ?_⟩
      obtain ⟨f, rfl⟩ : ∃ k, f = k + 1 := ⟨f - 1, by omega⟩
      refine br_f (nI_ge (by omega) (by omega)) ⟨vi, ?_⟩
      rw [c1, g4]
      exact br_f (fun y => by rw [qy_pv g5, hv, hz] at y; exact nomatch y) ⟨vi, nm_e ⟨vi, nm_e (nm_r (nI_1 i) (hr2 post hpost f (by omega)))⟩⟩
theorem wy_br {k : Nat} {pv : Nat → Nat} (hw : qa_wo w) (hs : s ≤ 32) (h : qy_R w s z s k yV yP yI pv) {q : Int32} (hq : qa_in s q) :
    ∃ r, qa_nf w s (qy_Z z) q r ∧ ∀ post : Int32 → Prop, post r → wpY_byRows post (nI s, yrm, yod, ywk, ygc, ybp, ycz, ybs, ycp, yct, nI k, yG, yB, yC, yA, yV, yP, yI) q z := by
  have h0 := qy_rd_all (f := q) hs h (fun t ht => ⟨qa_rk w s t, qa_rk_lt w (hq t ht), (qa_od_rk hw hs (hq t ht)).symm⟩)
  obtain ⟨r, hr1, hr2⟩ := wy_br2 (yrm := yrm) (yod := yod) (ywk := ywk) (ygc := ygc) (ybp := ybp) (ycz := ycz) (ybs := ybs) (ycp := ycp) (yct := yct) (yG := yG) (yB := yB) (yC := yC) (yA := yA) (yV := yV) (yP := yP) (yI := yI) (ysz := nI s) hs h h0 k 0 (by omega) 0 (qy_ms s z q) rfl (qa_in_0 s) (by rw [qy_ms_0 hs, qa_xx]) (fun t ht => by rw [b_0] at ht; exact nomatch ht)
  exact ⟨r, hr1, fun post hp => wy_vl hs hq (nm_e ⟨k + 1, hr2 post hp (k + 1) (by omega)⟩)⟩
theorem wy_nf {post : Int32 → SY → Prop} (hw : qa_wo w) (hs : s ≤ 32) (hA : qa_As w s yA) {q : Int32} (hq : qa_in s q)
    (H : ∀ (r yrc : Int32) (yV yP yI : Nat → Int32), qa_nf w s (qy_Z z) q r → post r (nI s, yrm, yod, ywk, ygc, ybp, ycz, ybs, ycp, yct, yrc, yG, yB, yC, yA, yV, yP, yI)) : wpY_normalForm post (nI s, yrm, yod, ywk, ygc, ybp, ycz, ybs, ycp, yct, yrc, yG, yB, yC, yA, yV, yP, yI) q z := by
  refine wy_mr (yrc := yrc) hw hs hA ?_
  intro k yV' yP' yI' pv h
  obtain ⟨r, hr1, hr2⟩ := wy_br (yrm := yrm) (yod := yod) (ywk := ywk) (ygc := ygc) (ybp := ybp) (ycz := ycz) (ybs := ybs) (ycp := ycp) (yct := yct) (yG := yG) (yB := yB) (yC := yC) (yA := yA) (yV := yV') (yP := yP') (yI := yI') hw hs h hq
  exact hr2 _ (H r (nI k) yV' yP' yI' hr1)
end
end
section
/-! ===== the reference: the basis ===== -/
section
variable {ysz yrm yod ywk ygc ybp ycz ybs ycp yct yrc : Int32} {yG yB yC yA yV yP yI : Nat → Int32} {s : Nat} {w : Nat → Nat}
theorem wy_mb3 {post : SY → Prop} {J : Int32 → Int32 → (Nat → Int32) → (Nat → Int32) → (Nat → Int32) → (Nat → Int32) → (Nat → Int32) → (Nat → Int32) → (Nat → Int32) → Prop} {k : Nat} {pv : Nat → Nat} (hw : qa_wo w) (hz : qa_sz s) (h : qy_R w s ycz s k yV yP yI pv) {L : Int32} (hL : ∀ m, bt L m = true ↔ m < s ∧ ¬ qa_std w s (qy_Z ycz) m)
    {r m b : Nat} (hm : m < s) (hr : r < 32) (hb : b < 32)
    (H1 : qa_mn w s (qy_Z ycz) m → ∀ r0, qa_nf w s (qy_Z ycz) (qa_mo m) r0 → J (nI (r + 1)) (nI (b + 1)) yG (upd yB b (qa_mo m ^^^ r0)) yC yA yV yP yI)
    (H0 : ¬ qa_mn w s (qy_Z ycz) m → J (nI (r + 1)) (nI b) yG yB yC yA yV yP yI) :
    ∀ d x, x + d = s → ∀ f, d < f → ∀ fl : Int32, ((fl = 1 ∧ ¬ qa_std w s (qy_Z ycz) m ∧ ∀ y, y < x → ¬ y = m → y &&& m = y → qa_std w s (qy_Z ycz) y) ∨ (fl = 0 ∧ ¬ qa_mn w s (qy_Z ycz) m)) → wY_makeBasis_92 post J L (nI r) (nI m) (nI s) yrm yod ywk ygc ybp ycz (nI b) ycp yct (nI k) yG yB yC yA yV yP yI f fl (nI x) := by
  have s32 := hz.2.1
  intro d
  induction d with
  | zero =>
    intro x hx f hf fl hfl
    obtain ⟨f, rfl⟩ : ∃ k, f = k + 1 := ⟨f - 1, by omega⟩
    have ex : x = s := by omega
    subst ex
    refine br_t (nI_le (by omega) (by omega)) ?_
    rcases hfl with ⟨e1, h1, h2⟩ | ⟨e1, h1⟩
    · refine br_f (by rw [e1]; decide) ?_
      obtain ⟨r0, hr1, hr2⟩ := wy_br (yrm := yrm) (yod := yod) (ywk := ywk) (ygc := ygc) (ybp := ybp) (ycz := ycz) (ycp := ycp) (yct := yct) (yG := yG) (yB := yB) (yC := yC) (yA := yA) (yV := yV) (yP := yP) (yI := yI) (ybs := nI b) hw s32 h (q := qa_mo m) (qa_in_mo s32 hm)
      refine hr2 _ ⟨vp_in_nI hb (by decide), nm_r (e' := upd yB b (qa_mo m ^^^ r0)) (by rw [nI_clamp (by omega)]; rfl) (nm_r (nI_1 b) (nm_r (nI_1 r) (H1 ⟨hm, h1, h2⟩ r0 hr1)))⟩
    · exact br_t e1 (nm_r (nI_1 r) (H0 h1))
  | succ d ih =>
    intro x hx f hf fl hfl
    obtain ⟨f, rfl⟩ : ∃ k, f = k + 1 := ⟨f - 1, by omega⟩
    have nx := ih (x + 1) (by omega) f (by omega)
    have keep : (¬ x = m → x &&& m = x → qa_std w s (qy_Z ycz) x) → wY_makeBasis_92 post J L (nI r) (nI m) (nI s) yrm yod ywk ygc ybp ycz (nI b) ycp yct (nI k) yG yB yC yA yV yP yI f fl (nI (x + 1)) := by
      intro hk
      refine nx fl ?_
      rcases hfl with ⟨e1, h1, h2⟩ | h1
      · refine Or.inl ⟨e1, h1, fun y hy hy1 hy2 => ?_⟩
        by_cases ey : y = x
        · rw [ey] at hy1 hy2 ⊢
          exact hk hy1 hy2
        · exact h2 y (by omega) hy1 hy2
      · exact Or.inr h1
    refine br_f (nI_ge (by omega) (by omega)) (pk_eq x m (fun e1 => nm_r (nI_1 x) (keep fun n1 => absurd e1 n1)) (fun n1 => qa_br1 (by omega) (fun hb1 => qx_dvb (a := x) rfl (by omega) (fun hd => nm_r (nI_1 x) (nx 0 (Or.inr ⟨rfl, fun hmn => ?_⟩))) (fun hd => nm_r (nI_1 x) (keep fun _ hd2 => absurd hd2 hd))) (fun hb0 => nm_r (nI_1 x) (keep fun _ _ => ?_))))
    · exact ((hL x).mp hb1).2 (hmn.2.2 x (by omega) n1 hd)
    · apply Classical.byContradiction
      intro hns
      have := (hL x).mpr ⟨by omega, hns⟩
      rw [hb0] at this
      exact nomatch this
theorem wy_mb2 {post : SY → Prop} {k : Nat} {pv : Nat → Nat} (hw : qa_wo w) (hz : qa_sz s) (hA : qa_As w s yA) (h : qy_R w s ycz s k yV yP yI pv) {L : Int32} (hL : ∀ m, bt L m = true ↔ m < s ∧ ¬ qa_std w s (qy_Z ycz) m)
    (H : ∀ (b : Nat) (yB : Nat → Int32), qa_RB w s (qy_Z ycz) b yB → post (nI s, yrm, yod, ywk, ygc, 1, ycz, nI b, ycp, yct, nI k, yG, yB, yC, yA, yV, yP, yI)) :
    ∀ d r, r + d = s → ∀ f, d < f → ∀ (b : Nat) (yB : Nat → Int32), b = qa_cn (fun r => qa_mn w s (qy_Z ycz) (qa_od w s r)) r →
      (∀ q, q < r → qa_mn w s (qy_Z ycz) (qa_od w s q) → qa_nf w s (qy_Z ycz) (qa_mo (qa_od w s q)) (qa_mo (qa_od w s q) ^^^ yB (qa_cn (fun r => qa_mn w s (qy_Z ycz) (qa_od w s r)) q))) →
      wY_makeBasis_58 post L (nI s) yrm yod ywk ygc ybp ycz ycp yct (nI k) f (nI r) (nI b) yG yB yC yA yV yP yI := by
  have s32 := hz.2.1
  intro d
  induction d with
  | zero =>
    intro r hr f hf b yB h1 h2
    obtain ⟨f, rfl⟩ : ∃ k, f = k + 1 := ⟨f - 1, by omega⟩
    have er : r = s := by omega
    subst er
    exact br_t (nI_le (by omega) (by omega)) (H b yB ⟨h1, h2⟩)
  | succ d ih =>
    intro r hr f hf b yB h1 h2
    obtain ⟨f, rfl⟩ : ∃ k, f = k + 1 := ⟨f - 1, by omega⟩
    have hrs : r < s := by omega
    obtain ⟨ms, mr⟩ := qa_od_s hw s32 hrs
    have eA : yA (nI r).toNatClampNeg = nI (qa_od w s r) := by rw [nI_clamp (by omega)]; exact qa_As_r hw s32 hA hrs
    have hbr := qa_cn_le (P := fun r => qa_mn w s (qy_Z ycz) (qa_od w s r)) r
    have go : ∀ fl : Int32, ((fl = 1 ∧ ¬ qa_std w s (qy_Z ycz) (qa_od w s r)) ∨ (fl = 0 ∧ qa_std w s (qy_Z ycz) (qa_od w s r))) → wY_makeBasis_92 post (wY_makeBasis_58 post L (nI s) yrm yod ywk ygc ybp ycz ycp yct (nI k) f) L (nI r) (nI (qa_od w s r)) (nI s) yrm yod ywk ygc ybp ycz (nI b) ycp yct (nI k) yG yB yC yA yV yP yI (s + 1) fl 0 := by
      intro fl hfl
      refine wy_mb3 hw hz h hL ms (by omega) (by omega) (fun hm r0 hr0 => ?_) (fun hm => ?_) s 0 (by omega) (s + 1) (by omega) fl ?_
      · refine ih (r + 1) (by omega) f (by omega) (b + 1) _ ?_ (fun q hq hmq => ?_)
        · rw [h1, qa_cn_t (P := fun r => qa_mn w s (qy_Z ycz) (qa_od w s r)) hm]
        · by_cases eq : q = r
          · rw [eq, ← h1, pk_us, qa_xk']
            exact hr0
          · have h6 := qa_cn_lt (P := fun r => qa_mn w s (qy_Z ycz) (qa_od w s r)) hmq (show q < r by omega)
            rw [pk_un (by omega)]
            exact h2 q (by omega) hmq
      · refine ih (r + 1) (by omega) f (by omega) b yB ?_ (fun q hq hmq => ?_)
        · rw [h1, qa_cn_f (P := fun r => qa_mn w s (qy_Z ycz) (qa_od w s r)) hm]
        · by_cases eq : q = r
          · rw [eq] at hmq; exact absurd hmq hm
          · exact h2 q (by omega) hmq
      · rcases hfl with ⟨e1, e2⟩ | ⟨e1, e2⟩
        · exact Or.inl ⟨e1, e2, fun y hy => absurd hy (Nat.not_lt_zero y)⟩
        · exact Or.inr ⟨e1, fun hm => hm.2.1 e2⟩
    refine br_f (nI_ge (by omega) (by omega)) ⟨vp_in_nI (by omega) (by decide), nm_r eA (qa_br1 (by omega) (fun hb1 => ⟨s + 1, go 1 (Or.inl ⟨rfl, ((hL _).mp hb1).2⟩)⟩) (fun hb0 => ⟨s + 1, go 0 (Or.inr ⟨rfl, ?_⟩)⟩))⟩
    apply Classical.byContradiction
    intro hns
    have := (hL _).mpr ⟨ms, hns⟩
    rw [hb0] at this
    exact nomatch this
theorem wy_mb {post : SY → Prop} (hw : qa_wo w) (hz : qa_sz s) (hA : qa_As w s yA)
    (H : ∀ (b : Nat) (yrc : Int32) (yB yV yP yI : Nat → Int32), qa_RB w s (qy_Z ycz) b yB → post (nI s, yrm, yod, ywk, ygc, 1, ycz, nI b, ycp, yct, yrc, yG, yB, yC, yA, yV, yP, yI)) : wpY_makeBasis post (nI s, yrm, yod, ywk, ygc, ybp, ycz, ybs, ycp, yct, yrc, yG, yB, yC, yA, yV, yP, yI) := by
  have s32 := hz.2.1
  refine wy_mr (yrc := yrc) hw s32 hA ?_
  intro k yV' yP' yI' pv h
  have key : ∀ d x, x + d = s → ∀ f, d < f → ∀ L : Int32, (∀ m, bt L m = true ↔ m < x ∧ ¬ qa_std w s (qy_Z ycz) m) → wY_makeBasis_12 post (nI s) yrm yod ywk ygc ybp ycz ybs ycp yct (nI k) yG yB yC yA yV' yP' yI' f L (nI x) := by
    intro d
    induction d with
    | zero =>
      intro x hx f hf L hL
      obtain ⟨f, rfl⟩ : ∃ k, f = k + 1 := ⟨f - 1, by omega⟩
      have ex : x = s := by omega
      subst ex
      exact br_t (nI_le (by omega) (by omega)) ⟨x + 1, wy_mb2 hw hz hA h hL (fun b yB' hB => H b (nI k) yB' yV' yP' yI' hB) x 0 (by omega) (x + 1) (by omega) 0 yB rfl (fun q hq => absurd hq (Nat.not_lt_zero q))⟩
    | succ d ih =>
      intro x hx f hf L hL
      obtain ⟨f, rfl⟩ : ∃ k, f = k + 1 := ⟨f - 1, by omega⟩
      have hxs : x < s := by omega
      obtain ⟨r0, hr1, hr2⟩ := wy_br (yrm := yrm) (yod := yod) (ywk := ywk) (ygc := ygc) (ybp := ybp) (ycz := ycz) (ybs := ybs) (ycp := ycp) (yct := yct) (yG := yG) (yB := yB) (yC := yC) (yA := yA) (yV := yV') (yP := yP') (yI := yI') hw s32 h (q := qa_mo x) (qa_in_mo s32 hxs)
      have hsd := qa_nf_mo hz hxs hr1
      refine br_f (nI_ge (by omega) (by omega)) (hr2 _ (br_c (fun e1 => nm_r (nI_1 x) (ih (x + 1) (by omega) f (by omega) L fun m => ?_)) (fun e1 => nm_e (nm_r (nI_1 x) (ih (x + 1) (by omega) f (by omega) _ fun m => ?_)))))
      · have h1 := hsd.mp e1
        rw [hL m]
        constructor
        · intro ⟨g1, g2⟩; exact ⟨by omega, g2⟩
        · intro ⟨g1, g2⟩
          refine ⟨?_, g2⟩
          by_cases em : m = x
          · rw [em] at g2; exact absurd h1 g2
          · omega
      · have h1 : ¬ qa_std w s (qy_Z ycz) x := fun y => e1 (hsd.mpr y)
        show bt (L ||| qa_mo x) m = true ↔ _
        rw [b_or, qa_bm (by omega), Bool.or_eq_true, hL m, decide_eq_true_eq]
        constructor
        · intro g
          rcases g with ⟨g1, g2⟩ | g
          · exact ⟨by omega, g2⟩
          · rw [g]; exact ⟨by omega, h1⟩
        · intro ⟨g1, g2⟩
          by_cases em : m = x
          · exact Or.inr em
          · exact Or.inl ⟨by omega, g2⟩
  refine ⟨s + 1, key s 0 (by omega) (s + 1) (by omega) 0 fun m => ?_⟩
  rw [b_0]
  exact ⟨fun g => (nomatch g), fun g => absurd g.1 (Nat.not_lt_zero m)⟩
theorem wy_ld {post : Int32 → Prop} {o : Nat} (ho : o < 3) (hs : s ≤ 32) {p : Int32} (hp : qa_in s p) (h0 : p = 0 → post (-4)) (h1 : ∀ m, qa_ld (qa_wt o 0) p m → post (nI m)) : ∃ n25, wY_lead_25 post p (nI s) yrm (nI o) ywk ygc ybp ycz ybs ycp yct yrc yG yB yC yA yV yP yI n25 (-4) 0 := by
  have n4 : ∀ b, b < 32 → ¬ nI b = -4 := by decide +kernel
  have key : ∀ d x, x + d = s → ∀ f, d < f → ∀ v : Int32, ((v = -4 ∧ ∀ t, t < x → bt p t = false) ∨ (∃ b, v = nI b ∧ bt p b = true ∧ ∀ t, t < x → bt p t = true → qa_wt o 0 t ≤ qa_wt o 0 b)) → wY_lead_25 post p (nI s) yrm (nI o) ywk ygc ybp ycz ybs ycp yct yrc yG yB yC yA yV yP yI f v (nI x) := by
    intro d
    induction d with
    | zero =>
      intro x hx f hf v hv
      obtain ⟨f, rfl⟩ : ∃ k, f = k + 1 := ⟨f - 1, by omega⟩
      refine br_t (nI_le (by omega) (by omega)) ?_
      rcases hv with ⟨e1, e2⟩ | ⟨b, e1, e2, e3⟩
      · rw [e1]
        apply h0
        apply b_ext
        intro i _
        rw [b_0]
        cases e : bt p i
        · rfl
        · have := hp i e
          rw [e2 i (by omega)] at e
          exact nomatch e
      · rw [e1]
        exact h1 b ⟨e2, fun t ht => e3 t (by have := hp t ht; omega) ht⟩
    | succ d ih =>
      intro x hx f hf v hv
      obtain ⟨f, rfl⟩ : ∃ k, f = k + 1 := ⟨f - 1, by omega⟩
      have nx := ih (x + 1) (by omega) f (by omega)
      refine br_f (nI_ge (by omega) (by omega)) (qa_br1 (by omega) (fun hb => br_c (fun e4 => nm_r (nI_1 x) (nx _ ?_)) (fun e4 => ?_)) (fun hb => nm_r (nI_1 x) (nx _ ?_)))
      · rcases hv with ⟨e1, e2⟩ | ⟨b, e1, e2, e3⟩
        · refine Or.inr ⟨x, rfl, hb, fun t ht hbt => ?_⟩
          by_cases et : t = x
          · rw [et]; exact Nat.le_refl _
          · rw [e2 t (by omega)] at hbt
            exact nomatch hbt
        · rw [e1] at e4
          exact absurd e4 (n4 b (qa_lt e2))
      · rcases hv with ⟨e1, e2⟩ | ⟨b, e1, e2, e3⟩
        · exact absurd e1 e4
        · rw [e1]
          refine wy_gr ho (by omega) (qa_lt e2) ?_
          by_cases c : qa_wt o 0 b < qa_wt o 0 x
          · rw [qx_bt c]
            refine br_f (by decide) (nm_r (nI_1 x) (nx _ (Or.inr ⟨x, rfl, hb, fun t ht hbt => ?_⟩)))
            by_cases et : t = x
            · rw [et]; exact Nat.le_refl _
            · have := e3 t (by omega) hbt
              omega
          · rw [qx_bf c]
            refine br_t rfl (nm_r (nI_1 x) (nx _ (Or.inr ⟨b, rfl, e2, fun t ht hbt => ?_⟩)))
            by_cases et : t = x
            · rw [et]; omega
            · exact e3 t (by omega) hbt
      · rcases hv with ⟨e1, e2⟩ | ⟨b, e1, e2, e3⟩
        · refine Or.inl ⟨e1, fun t ht => ?_⟩
          by_cases et : t = x
          · rw [et]; exact hb
          · exact e2 t (by omega)
        · refine Or.inr ⟨b, e1, e2, fun t ht hbt => ?_⟩
          by_cases et : t = x
          · rw [et, hb] at hbt
            exact nomatch hbt
          · exact e3 t (by omega) hbt
  exact ⟨s + 1, key s 0 (by omega) (s + 1) (by omega) (-4) (Or.inl ⟨rfl, fun t ht => absurd ht (Nat.not_lt_zero t)⟩)⟩
end
end
section
/-! ===== the relation ===== -/
def qr_K (n s o q g : Nat) : Prop := 1 ≤ n ∧ n ≤ 5 ∧ s = 2 ^ n ∧ o < 3 ∧ 1 ≤ q ∧ q ≤ 8 ∧ g ≤ q
def qr_T (s o : Nat) (aW aT aM aP yA : Nat → Int32) : Prop := qx_W aW ∧ qx_T aT ∧ qa_As (qa_wt o 0) s aM ∧ qa_As (qa_wt o 0) s yA ∧ ∀ j, aP j = 0 ∨ aP j = 1
def qr_G (s g : Nat) (wk : Int32) (aG yG : Nat → Int32) : Prop := qa_in s wk ∧ ∀ i, i < g → yG i = aG i ∧ qa_in s (aG i)
def qr_b (s o : Nat) (bp bc ycz ybs : Int32) (aB aL yB : Nat → Int32) : Prop :=
  bp = 0 ∨ (bp = 1 ∧ ∃ (b : Nat) (l : Nat → Nat), b ≤ 10 ∧ bc = nI b ∧ ybs = nI b ∧ qa_in s ycz ∧ qa_RB (qa_wt o 0) s (qy_Z ycz) b aB ∧ qa_RL (qa_wt o 0) s (qy_Z ycz) l ∧ (∀ i, i < b → aL i = nI (l i)) ∧ ∀ i, i < b → yB i = aB i)
def qr_c (s g : Nat) (cp ct yct : Int32) (aC yC : Nat → Int32) : Prop :=
  cp = 0 ∨ (cp = 1 ∧ yct = ct ∧ qa_in s ct ∧ ∀ i, i < g → yC i = aC i ∧ qa_in s (aC i))
def i_Rel (k : Nat) (u : SX) (v : SY) : Prop := match u with
  | (vc, sz, od, rm, wk, gc, bp, bc, cp, ct, sc, ec, pc, aW, aT, aM, aR, aG, aB, aL, aC, aS, aE, aD, aF, aO, aK, aP) => match v with
    | (ysz, yrm, yod, ywk, ygc, ybp, ycz, ybs, ycp, yct, yrc, yG, yB, yC, yA, yV, yP, yI) => ∃ n s o q g : Nat, vc = nI n ∧ sz = nI s ∧ od = nI o ∧ rm = nI q ∧ gc = nI g ∧ ysz = nI s ∧ yrm = nI q ∧ yod = nI o ∧ ygc = nI g ∧ ywk = wk ∧ ybp = bp ∧ ycp = cp ∧
      qr_K n s o q g ∧ qr_T s o aW aT aM aP yA ∧ qr_G s g wk aG yG ∧ qr_b s o bp bc ycz ybs aB aL yB ∧ qr_c s g cp ct yct aC yC
theorem i_up {k : Nat} {u : SX} {v : SY} (h : i_Rel k u v) : i_Rel (k + 5) u v := h
section
variable {vc sz od rm wk gc bp bc cp ct sc ec pc : Int32} {aW aT aM aR aG aB aL aC aS aE aD aF aO aK aP : Nat → Int32} {ysz yrm yod ywk ygc ybp ycz ybs ycp yct yrc : Int32} {yG yB yC yA yV yP yI : Nat → Int32} {n s o q g k : Nat}
theorem qr_in (hK : qr_K n s o q g) (hT : qr_T s o aW aT aM aP yA) (hG : qr_G s g wk aG yG) (hb : qr_b s o bp bc ycz ybs aB aL yB) (hc : qr_c s g cp ct yct aC yC) : i_Rel k (nI n, nI s, nI o, nI q, wk, nI g, bp, bc, cp, ct, sc, ec, pc, aW, aT, aM, aR, aG, aB, aL, aC, aS, aE, aD, aF, aO, aK, aP) (nI s, nI q, nI o, wk, nI g, bp, ycz, ybs, cp, yct, yrc, yG, yB, yC, yA, yV, yP, yI) :=
  ⟨n, s, o, q, g, rfl, rfl, rfl, rfl, rfl, rfl, rfl, rfl, rfl, rfl, rfl, rfl, hK, hT, hG, hb, hc⟩
theorem qr_el {u : SX} {v : SY} {P : SX → SY → Prop} (h : ∀ (n s o q g : Nat) (wk bp bc cp ct sc ec pc ycz ybs yct yrc : Int32) (aW aT aM aR aG aB aL aC aS aE aD aF aO aK aP yG yB yC yA yV yP yI : Nat → Int32), qr_K n s o q g → qr_T s o aW aT aM aP yA → qr_G s g wk aG yG → qr_b s o bp bc ycz ybs aB aL yB → qr_c s g cp ct yct aC yC → P (nI n, nI s, nI o, nI q, wk, nI g, bp, bc, cp, ct, sc, ec, pc, aW, aT, aM, aR, aG, aB, aL, aC, aS, aE, aD, aF, aO, aK, aP) (nI s, nI q, nI o, wk, nI g, bp, ycz, ybs, cp, yct, yrc, yG, yB, yC, yA, yV, yP, yI)) (I : i_Rel k u v) : P u v := by
  match u, v, I with
  | (vc, sz, od, rm, wk, gc, bp, bc, cp, ct, sc, ec, pc, aW, aT, aM, aR, aG, aB, aL, aC, aS, aE, aD, aF, aO, aK, aP), (ysz, yrm, yod, ywk, ygc, ybp, ycz, ybs, ycp, yct, yrc, yG, yB, yC, yA, yV, yP, yI), ⟨n, s, o, q, g, e1, e2, e3, e4, e5, e6, e7, e8, e9, e10, e11, e12, hK, hT, hG, hb, hc⟩ =>
    subst e1 e2 e3 e4 e5 e6 e7 e8 e9 e10 e11 e12
    exact h n s o q g _ _ _ _ _ _ _ _ _ _ _ _ _ _ _ _ _ _ _ _ _ _ _ _ _ _ _ _ _ _ _ _ _ _ hK hT hG hb hc
end
/-! ===== sources ===== -/
section
variable {vc sz od rm wk gc bp bc cp ct sc ec pc : Int32} {aW aT aM aR aG aB aL aC aS aE aD aF aO aK aP : Nat → Int32} {ysz yrm yod ywk ygc ybp ycz ybs ycp yct yrc : Int32} {yG yB yC yA yV yP yI : Nat → Int32} {n s o q g : Nat}
theorem qr_h0 {p0 p1 : Int32} {L : Nat} (hA : ∀ post : Int32 → Prop, post (nI L) → wpX_available post (nI n, nI s, nI o, nI q, wk, nI g, bp, bc, cp, ct, sc, ec, pc, aW, aT, aM, aR, aG, aB, aL, aC, aS, aE, aD, aF, aO, aK, aP) p0) (h : p1 < 0 ∨ nI L ≤ p1) (post : Int32 → Prop) (hp : post 0) : wpX_hasSource post (nI n, nI s, nI o, nI q, wk, nI g, bp, bc, cp, ct, sc, ec, pc, aW, aT, aM, aR, aG, aB, aL, aC, aS, aE, aD, aF, aO, aK, aP) p0 p1 := by
  unfold wpX_hasSource
  refine hA _ ?_
  by_cases z : p1 < 0
  · exact br_t z hp
  · rcases h with h | h
    · exact absurd h z
    · exact br_f z (br_t h hp)
theorem qr_h1 {p0 : Int32} {L j : Nat} (hA : ∀ post : Int32 → Prop, post (nI L) → wpX_available post (nI n, nI s, nI o, nI q, wk, nI g, bp, bc, cp, ct, sc, ec, pc, aW, aT, aM, aR, aG, aB, aL, aC, aS, aE, aD, aF, aO, aK, aP) p0) (h : j < L) (hL : L ≤ 32) (post : Int32 → Prop) (hp : post 1) : wpX_hasSource post (nI n, nI s, nI o, nI q, wk, nI g, bp, bc, cp, ct, sc, ec, pc, aW, aT, aM, aR, aG, aB, aL, aC, aS, aE, aD, aF, aO, aK, aP) p0 (nI j) := by
  unfold wpX_hasSource
  exact hA _ (br_f (nI_pos (by omega)) (br_f (nI_ge h (by omega)) hp))
theorem qr_ix (p1 : Int32) {L : Nat} (hL : L ≤ 32) : (p1 < 0 ∨ (¬ p1 < 0 ∧ nI L ≤ p1)) ∨ ∃ j, j < L ∧ p1 = nI j := by
  by_cases z : p1 < 0
  · exact Or.inl (Or.inl z)
  · rcases pk_ix p1 (n := L) (by omega) with h | h | h
    · exact absurd h z
    · exact Or.inl (Or.inr ⟨z, h⟩)
    · exact Or.inr h
/-- not a source for both, or the same polynomial -/
def qr_S (s : Nat) (u : SX) (v : SY) (p0 p1 : Int32) : Prop :=
  ((∀ post : Int32 → Prop, post 0 → wpX_hasSource post u p0 p1) ∧ (∀ post : Int32 → Prop, post 0 → wpY_isSource post v p0 p1)) ∨
  ∃ p : Int32, qa_in s p ∧ (∀ post : Int32 → Prop, post 1 → wpX_hasSource post u p0 p1) ∧ (∀ post : Int32 → Prop, post 1 → wpY_isSource post v p0 p1) ∧ (∀ post : Int32 → Prop, post p → wpX_source post u p0 p1) ∧ (∀ post : Int32 → Prop, post p → wpY_poly post v p0 p1)
theorem qr_s0 (hs : s ≤ 32) (p1 : Int32) : qr_S s (nI n, nI s, nI o, nI q, wk, nI g, bp, bc, cp, ct, sc, ec, pc, aW, aT, aM, aR, aG, aB, aL, aC, aS, aE, aD, aF, aO, aK, aP) (nI s, nI q, nI o, wk, nI g, bp, ycz, ybs, cp, yct, yrc, yG, yB, yC, yA, yV, yP, yI) 0 p1 := by
  have hA : ∀ post : Int32 → Prop, post (nI s) → wpX_available post (nI n, nI s, nI o, nI q, wk, nI g, bp, bc, cp, ct, sc, ec, pc, aW, aT, aM, aR, aG, aB, aL, aC, aS, aE, aD, aF, aO, aK, aP) 0 := fun post hp => br_f (by decide) (br_f (by decide) (br_t rfl hp))
  rcases qr_ix p1 hs with h | ⟨j, hj, rfl⟩
  · refine Or.inl ⟨qr_h0 hA (h.imp id And.right), fun post hp => ?_⟩
    rcases h with h | ⟨h, h2⟩
    · exact br_f (Int32.not_le.mpr h) hp
    · exact br_t (Int32.not_lt.mp h) (br_t rfl (br_t h2 hp))
  · have hY : ∀ post : Int32 → Prop, post 1 → wpY_isSource post (nI s, nI q, nI o, wk, nI g, bp, ycz, ybs, cp, yct, yrc, yG, yB, yC, yA, yV, yP, yI) 0 (nI j) := fun post hp => br_t (nI_pos' (by omega)) (br_t rfl (br_f (nI_ge hj (by omega)) hp))
    refine Or.inr ⟨qa_mo j, qa_in_mo hs hj, qr_h1 hA hj hs, hY, fun post hp => br_f (by decide) (br_f (by decide) (br_t rfl hp)), fun post hp => ?_⟩
    unfold wpY_poly
    exact hY _ (br_f (by decide) (br_t rfl hp))
theorem qr_s1 (hg : g ≤ 8) (hG : ∀ i, i < g → yG i = aG i ∧ qa_in s (aG i)) (p1 : Int32) : qr_S s (nI n, nI s, nI o, nI q, wk, nI g, bp, bc, cp, ct, sc, ec, pc, aW, aT, aM, aR, aG, aB, aL, aC, aS, aE, aD, aF, aO, aK, aP) (nI s, nI q, nI o, wk, nI g, bp, ycz, ybs, cp, yct, yrc, yG, yB, yC, yA, yV, yP, yI) 1 p1 := by
  have hA : ∀ post : Int32 → Prop, post (nI g) → wpX_available post (nI n, nI s, nI o, nI q, wk, nI g, bp, bc, cp, ct, sc, ec, pc, aW, aT, aM, aR, aG, aB, aL, aC, aS, aE, aD, aF, aO, aK, aP) 1 := fun post hp => br_f (by decide) (br_f (by decide) (br_f (by decide) (br_t rfl hp)))
  rcases qr_ix p1 (L := g) (by omega) with h | ⟨j, hj, rfl⟩
  · refine Or.inl ⟨qr_h0 hA (h.imp id And.right), fun post hp => ?_⟩
    rcases h with h | ⟨h, h2⟩
    · exact br_f (Int32.not_le.mpr h) hp
    · exact br_t (Int32.not_lt.mp h) (br_f (by decide) (br_t rfl (br_t h2 hp)))
  · have c1 : (nI j).toNatClampNeg = j := nI_clamp (by omega)
    have v8 : vp_in (nI j) 8 := vp_in_nI (by omega) (by decide)
    have hY : ∀ post : Int32 → Prop, post 1 → wpY_isSource post (nI s, nI q, nI o, wk, nI g, bp, ycz, ybs, cp, yct, yrc, yG, yB, yC, yA, yV, yP, yI) 1 (nI j) := fun post hp => br_t (nI_pos' (by omega)) (br_f (by decide) (br_t rfl (br_f (nI_ge hj (by omega)) hp)))
    refine Or.inr ⟨aG j, (hG j hj).2, qr_h1 hA hj (by omega), hY, fun post hp => br_f (by decide) (br_f (by decide) (br_f (by decide) (br_t rfl ⟨v8, ?_⟩))), fun post hp => ?_⟩
    · rw [c1]; exact hp
    · unfold wpY_poly
      refine hY _ (br_f (by decide) (br_f (by decide) (br_t rfl ⟨v8, ?_⟩)))
      rw [c1, (hG j hj).1]; exact hp
theorem qr_s2 (hw : qa_wo (qa_wt o 0)) (hz : qa_sz s) (hb : qr_b s o bp bc ycz ybs aB aL yB) (p1 : Int32) : qr_S s (nI n, nI s, nI o, nI q, wk, nI g, bp, bc, cp, ct, sc, ec, pc, aW, aT, aM, aR, aG, aB, aL, aC, aS, aE, aD, aF, aO, aK, aP) (nI s, nI q, nI o, wk, nI g, bp, ycz, ybs, cp, yct, yrc, yG, yB, yC, yA, yV, yP, yI) 2 p1 := by
  rcases hb with e0 | ⟨e1, b, l, h10, e2, e3, hin, hRB, hRL, hL, hB⟩
  · have hA : ∀ post : Int32 → Prop, post (nI 0) → wpX_available post (nI n, nI s, nI o, nI q, wk, nI g, bp, bc, cp, ct, sc, ec, pc, aW, aT, aM, aR, aG, aB, aL, aC, aS, aE, aD, aF, aO, aK, aP) 2 := fun post hp => br_f (by decide) (br_f (by decide) (br_f (by decide) (br_f (by decide) (br_t rfl (br_t e0 hp)))))
    rcases qr_ix p1 (L := 0) (by omega) with h | ⟨j, hj, _⟩
    · refine Or.inl ⟨qr_h0 hA (h.imp id And.right), fun post hp => ?_⟩
      rcases h with h | ⟨h, h2⟩
      · exact br_f (Int32.not_le.mpr h) hp
      · exact br_t (Int32.not_lt.mp h) (br_f (by decide) (br_f (by decide) (br_t rfl (br_t e0 hp))))
    · omega
  · have hne : ¬ bp = 0 := by rw [e1]; decide
    subst e2 e3
    have hA : ∀ post : Int32 → Prop, post (nI b) → wpX_available post (nI n, nI s, nI o, nI q, wk, nI g, bp, nI b, cp, ct, sc, ec, pc, aW, aT, aM, aR, aG, aB, aL, aC, aS, aE, aD, aF, aO, aK, aP) 2 := fun post hp => br_f (by decide) (br_f (by decide) (br_f (by decide) (br_f (by decide) (br_t rfl (br_f hne hp)))))
    rcases qr_ix p1 (L := b) (by omega) with h | ⟨j, hj, rfl⟩
    · refine Or.inl ⟨qr_h0 hA (h.imp id And.right), fun post hp => ?_⟩
      rcases h with h | ⟨h, h2⟩
      · exact br_f (Int32.not_le.mpr h) hp
      · exact br_t (Int32.not_lt.mp h) (br_f (by decide) (br_f (by decide) (br_t rfl (br_f hne (br_t h2 hp)))))
    · have c1 : (nI j).toNatClampNeg = j := nI_clamp (by omega)
      have hY : ∀ post : Int32 → Prop, post 1 → wpY_isSource post (nI s, nI q, nI o, wk, nI g, bp, ycz, nI b, cp, yct, yrc, yG, yB, yC, yA, yV, yP, yI) 2 (nI j) := fun post hp => br_t (nI_pos' (by omega)) (br_f (by decide) (br_f (by decide) (br_t rfl (br_f hne (br_f (nI_ge hj (by omega)) hp)))))
      have hG := qa_RB_G hw hz hRB hRL
      refine Or.inr ⟨aB j, (hG.1 j hj).1, qr_h1 hA hj (by omega), hY, fun post hp => br_f (by decide) (br_f (by decide) (br_f (by decide) (br_f (by decide) (br_t rfl ⟨vp_in_nI (by omega) (by decide), ?_⟩)))), fun post hp => ?_⟩
      · rw [c1]; exact hp
      · unfold wpY_poly
        refine hY _ (br_f (by decide) (br_f (by decide) (br_f (by decide) (br_t rfl ⟨vp_in_nI (by omega) (by decide), ?_⟩))))
        rw [c1, hB j hj]; exact hp
theorem qr_s3 (hg : g ≤ 8) (hc : qr_c s g cp ct yct aC yC) (p1 : Int32) : qr_S s (nI n, nI s, nI o, nI q, wk, nI g, bp, bc, cp, ct, sc, ec, pc, aW, aT, aM, aR, aG, aB, aL, aC, aS, aE, aD, aF, aO, aK, aP) (nI s, nI q, nI o, wk, nI g, bp, ycz, ybs, cp, yct, yrc, yG, yB, yC, yA, yV, yP, yI) 3 p1 := by
  rcases hc with e0 | ⟨e1, e2, hin, hC⟩
  · have hA : ∀ post : Int32 → Prop, post (nI 0) → wpX_available post (nI n, nI s, nI o, nI q, wk, nI g, bp, bc, cp, ct, sc, ec, pc, aW, aT, aM, aR, aG, aB, aL, aC, aS, aE, aD, aF, aO, aK, aP) 3 := fun post hp => br_f (by decide) (br_f (by decide) (br_f (by decide) (br_f (by decide) (br_f (by decide) (br_t rfl (br_t e0 hp))))))
    rcases qr_ix p1 (L := 0) (by omega) with h | ⟨j, hj, _⟩
    · refine Or.inl ⟨qr_h0 hA (h.imp id And.right), fun post hp => ?_⟩
      rcases h with h | ⟨h, h2⟩
      · exact br_f (Int32.not_le.mpr h) hp
      · exact br_t (Int32.not_lt.mp h) (br_f (by decide) (br_f (by decide) (br_f (by decide) (br_t rfl (br_t e0 hp)))))
    · omega
  · have hne : ¬ cp = 0 := by rw [e1]; decide
    have hA : ∀ post : Int32 → Prop, post (nI g) → wpX_available post (nI n, nI s, nI o, nI q, wk, nI g, bp, bc, cp, ct, sc, ec, pc, aW, aT, aM, aR, aG, aB, aL, aC, aS, aE, aD, aF, aO, aK, aP) 3 := fun post hp => br_f (by decide) (br_f (by decide) (br_f (by decide) (br_f (by decide) (br_f (by decide) (br_t rfl (br_f hne hp))))))
    rcases qr_ix p1 (L := g) (by omega) with h | ⟨j, hj, rfl⟩
    · refine Or.inl ⟨qr_h0 hA (h.imp id And.right), fun post hp => ?_⟩
      rcases h with h | ⟨h, h2⟩
      · exact br_f (Int32.not_le.mpr h) hp
      · exact br_t (Int32.not_lt.mp h) (br_f (by decide) (br_f (by decide) (br_f (by decide) (br_t rfl (br_f hne (br_t h2 hp))))))
    · have c1 : (nI j).toNatClampNeg = j := nI_clamp (by omega)
      have v8 : vp_in (nI j) 8 := vp_in_nI (by omega) (by decide)
      have hY : ∀ post : Int32 → Prop, post 1 → wpY_isSource post (nI s, nI q, nI o, wk, nI g, bp, ycz, ybs, cp, yct, yrc, yG, yB, yC, yA, yV, yP, yI) 3 (nI j) := fun post hp => br_t (nI_pos' (by omega)) (br_f (by decide) (br_f (by decide) (br_f (by decide) (br_t rfl (br_f hne (br_f (nI_ge hj (by omega)) hp))))))
      refine Or.inr ⟨aC j, (hC j hj).2, qr_h1 hA hj (by omega), hY, fun post hp => br_f (by decide) (br_f (by decide) (br_f (by decide) (br_f (by decide) (br_f (by decide) (br_t rfl ⟨v8, ?_⟩))))), fun post hp => ?_⟩
      · rw [c1]; exact hp
      · unfold wpY_poly
        refine hY _ (br_f (by decide) (br_f (by decide) (br_f (by decide) (br_f (by decide) (br_t rfl ⟨v8, ?_⟩)))))
        rw [c1, (hC j hj).1]; exact hp
theorem qr_n1 {p1 : Int32} (h : nI 1 ≤ p1) : ¬ p1 = 0 := by
  intro e
  rw [e] at h
  exact absurd h (by decide)
theorem qr_s4 (hin : qa_in s wk) (p1 : Int32) : qr_S s (nI n, nI s, nI o, nI q, wk, nI g, bp, bc, cp, ct, sc, ec, pc, aW, aT, aM, aR, aG, aB, aL, aC, aS, aE, aD, aF, aO, aK, aP) (nI s, nI q, nI o, wk, nI g, bp, ycz, ybs, cp, yct, yrc, yG, yB, yC, yA, yV, yP, yI) 4 p1 := by
  have hA : ∀ post : Int32 → Prop, post (nI 1) → wpX_available post (nI n, nI s, nI o, nI q, wk, nI g, bp, bc, cp, ct, sc, ec, pc, aW, aT, aM, aR, aG, aB, aL, aC, aS, aE, aD, aF, aO, aK, aP) 4 := fun post hp => br_f (by decide) (br_f (by decide) (br_f (by decide) (br_f (by decide) (br_f (by decide) (br_f (by decide) (br_t rfl hp))))))
  rcases qr_ix p1 (L := 1) (by omega) with h | ⟨j, hj, rfl⟩
  · refine Or.inl ⟨qr_h0 hA (h.imp id And.right), fun post hp => ?_⟩
    rcases h with h | ⟨h, h2⟩
    · exact br_f (Int32.not_le.mpr h) hp
    · exact br_t (Int32.not_lt.mp h) (br_f (by decide) (br_f (by decide) (br_f (by decide) (br_f (by decide) (br_t rfl (br_f (qr_n1 h2) hp))))))
  · have ej : j = 0 := by omega
    subst ej
    have hY : ∀ post : Int32 → Prop, post 1 → wpY_isSource post (nI s, nI q, nI o, wk, nI g, bp, ycz, ybs, cp, yct, yrc, yG, yB, yC, yA, yV, yP, yI) 4 (nI 0) := fun post hp => br_t (by decide) (br_f (by decide) (br_f (by decide) (br_f (by decide) (br_f (by decide) (br_t rfl (br_t rfl hp))))))
    refine Or.inr ⟨wk, hin, qr_h1 hA hj (by omega), hY, fun post hp => br_f (by decide) (br_f (by decide) (br_f (by decide) (br_f (by decide) (br_f (by decide) (br_f (by decide) (br_t rfl hp)))))), fun post hp => ?_⟩
    unfold wpY_poly
    exact hY _ (br_f (by decide) (br_f (by decide) (br_f (by decide) (br_f (by decide) (br_f (by decide) (br_t rfl hp))))))
theorem qr_s5 (hc : qr_c s g cp ct yct aC yC) (p1 : Int32) : qr_S s (nI n, nI s, nI o, nI q, wk, nI g, bp, bc, cp, ct, sc, ec, pc, aW, aT, aM, aR, aG, aB, aL, aC, aS, aE, aD, aF, aO, aK, aP) (nI s, nI q, nI o, wk, nI g, bp, ycz, ybs, cp, yct, yrc, yG, yB, yC, yA, yV, yP, yI) 5 p1 := by
  rcases hc with e0 | ⟨e1, e2, hin, hC⟩
  · have hA : ∀ post : Int32 → Prop, post (nI 0) → wpX_available post (nI n, nI s, nI o, nI q, wk, nI g, bp, bc, cp, ct, sc, ec, pc, aW, aT, aM, aR, aG, aB, aL, aC, aS, aE, aD, aF, aO, aK, aP) 5 := fun post hp => br_f (by decide) (br_f (by decide) (br_f (by decide) (br_f (by decide) (br_f (by decide) (br_f (by decide) (br_f (by decide) (br_t rfl (br_t e0 hp))))))))
    rcases qr_ix p1 (L := 0) (by omega) with h | ⟨j, hj, _⟩
    · refine Or.inl ⟨qr_h0 hA (h.imp id And.right), fun post hp => ?_⟩
      rcases h with h | ⟨h, h2⟩
      · exact br_f (Int32.not_le.mpr h) hp
      · exact br_t (Int32.not_lt.mp h) (br_f (by decide) (br_f (by decide) (br_f (by decide) (br_f (by decide) (br_f (by decide) (br_t rfl (br_t e0 hp)))))))
    · omega
  · have hne : ¬ cp = 0 := by rw [e1]; decide
    have hA : ∀ post : Int32 → Prop, post (nI 1) → wpX_available post (nI n, nI s, nI o, nI q, wk, nI g, bp, bc, cp, ct, sc, ec, pc, aW, aT, aM, aR, aG, aB, aL, aC, aS, aE, aD, aF, aO, aK, aP) 5 := fun post hp => br_f (by decide) (br_f (by decide) (br_f (by decide) (br_f (by decide) (br_f (by decide) (br_f (by decide) (br_f (by decide) (br_t rfl (br_f hne hp))))))))
    rcases qr_ix p1 (L := 1) (by omega) with h | ⟨j, hj, rfl⟩
    · refine Or.inl ⟨qr_h0 hA (h.imp id And.right), fun post hp => ?_⟩
      rcases h with h | ⟨h, h2⟩
      · exact br_f (Int32.not_le.mpr h) hp
      · exact br_t (Int32.not_lt.mp h) (br_f (by decide) (br_f (by decide) (br_f (by decide) (br_f (by decide) (br_f (by decide) (br_t rfl (br_f hne (br_f (qr_n1 h2) hp))))))))
    · have ej : j = 0 := by omega
      subst ej
      have hY : ∀ post : Int32 → Prop, post 1 → wpY_isSource post (nI s, nI q, nI o, wk, nI g, bp, ycz, ybs, cp, yct, yrc, yG, yB, yC, yA, yV, yP, yI) 5 (nI 0) := fun post hp => br_t (by decide) (br_f (by decide) (br_f (by decide) (br_f (by decide) (br_f (by decide) (br_f (by decide) (br_t rfl (br_f hne (br_t rfl hp))))))))
      refine Or.inr ⟨ct, hin, qr_h1 hA hj (by omega), hY, fun post hp => br_f (by decide) (br_f (by decide) (br_f (by decide) (br_f (by decide) (br_f (by decide) (br_f (by decide) (br_f (by decide) (br_t rfl hp))))))), fun post hp => ?_⟩
      unfold wpY_poly
      refine hY _ (br_f (by decide) (br_f (by decide) (br_f (by decide) (br_f (by decide) (br_f (by decide) (br_f (by decide) ?_))))))
      rw [e2]; exact hp
theorem qr_sx {p0 : Int32} (h0 : ¬ p0 = 0) (h1 : ¬ p0 = 1) (h2 : ¬ p0 = 2) (h3 : ¬ p0 = 3) (h4 : ¬ p0 = 4) (h5 : ¬ p0 = 5) (p1 : Int32) : qr_S s (nI n, nI s, nI o, nI q, wk, nI g, bp, bc, cp, ct, sc, ec, pc, aW, aT, aM, aR, aG, aB, aL, aC, aS, aE, aD, aF, aO, aK, aP) (nI s, nI q, nI o, wk, nI g, bp, ycz, ybs, cp, yct, yrc, yG, yB, yC, yA, yV, yP, yI) p0 p1 := by
  have hA : ∀ post : Int32 → Prop, post (nI 0) → wpX_available post (nI n, nI s, nI o, nI q, wk, nI g, bp, bc, cp, ct, sc, ec, pc, aW, aT, aM, aR, aG, aB, aL, aC, aS, aE, aD, aF, aO, aK, aP) p0 := by
    intro post hp
    by_cases z : p0 < 0
    · exact br_t z hp
    · refine br_f z (br_c (fun _ => hp) (fun h => ?_))
      obtain ⟨j, hj, rfl⟩ := nI_of2 (M := 5) (n := 5) (by decide) z (Int32.not_lt.mp h)
      exfalso
      have : j = 0 ∨ j = 1 ∨ j = 2 ∨ j = 3 ∨ j = 4 ∨ j = 5 := by omega
      rcases this with rfl | rfl | rfl | rfl | rfl | rfl
      · exact h0 rfl
      · exact h1 rfl
      · exact h2 rfl
      · exact h3 rfl
      · exact h4 rfl
      · exact h5 rfl
  rcases qr_ix p1 (L := 0) (by omega) with h | ⟨j, hj, _⟩
  · refine Or.inl ⟨qr_h0 hA (h.imp id And.right), fun post hp => ?_⟩
    exact br_c (fun _ => br_f h0 (br_f h1 (br_f h2 (br_f h3 (br_f h4 (br_f h5 hp)))))) (fun _ => hp)
  · omega
theorem qr_src (hK : qr_K n s o q g) (hG : qr_G s g wk aG yG) (hb : qr_b s o bp bc ycz ybs aB aL yB) (hc : qr_c s g cp ct yct aC yC) (p0 p1 : Int32) : qr_S s (nI n, nI s, nI o, nI q, wk, nI g, bp, bc, cp, ct, sc, ec, pc, aW, aT, aM, aR, aG, aB, aL, aC, aS, aE, aD, aF, aO, aK, aP) (nI s, nI q, nI o, wk, nI g, bp, ycz, ybs, cp, yct, yrc, yG, yB, yC, yA, yV, yP, yI) p0 p1 := by
  obtain ⟨k1, k2, k3, k4, k5, k6, k7⟩ := hK
  have hz : qa_sz s := by rw [k3]; exact qa_sz_n k2
  by_cases h0 : p0 = 0
  · subst h0; exact qr_s0 hz.2.1 p1
  by_cases h1 : p0 = 1
  · subst h1; exact qr_s1 (by omega) hG.2 p1
  by_cases h2 : p0 = 2
  · subst h2; exact qr_s2 (qa_wt_wo k4 0) hz hb p1
  by_cases h3 : p0 = 3
  · subst h3; exact qr_s3 (by omega) hc p1
  by_cases h4 : p0 = 4
  · subst h4; exact qr_s4 hG.1 p1
  by_cases h5 : p0 = 5
  · subst h5; exact qr_s5 hc p1
  exact qr_sx h0 h1 h2 h3 h4 h5 p1
end
end
section
/-! ===== the plain calls ===== -/
theorem i_vc_load {k : Nat} {u : SX} {v : SY} (I : i_Rel k u v) (hk : k + 5 ≤ 2563) (v1 : Int32) (v2 : Int32) : wpX_load (fun r u' => wpY_load (fun r' v' => r' = r ∧ i_Rel (k + 5) u' v') v v1 v2) u v1 v2 := by
  refine qr_el (P := fun u v => wpX_load (fun r u' => wpY_load (fun r' v' => r' = r ∧ i_Rel (k + 5) u' v') v v1 v2) u v1 v2) ?_ I
  intro n s o q g wk bp bc cp ct sc ec pc ycz ybs yct yrc aW aT aM aR aG aB aL aC aS aE aD aF aO aK aP yG yB yC yA yV yP yI hK hT hG hb hc
  unfold wpX_load
  rcases qr_src (n := n) (o := o) (q := q) hK hG hb hc v1 v2 with ⟨hx, hy⟩ | ⟨p, hin, hx, hy, hsx, hsy⟩
  · refine hx _ (br_t rfl ?_)
    unfold wpY_load
    exact hy _ (br_t rfl ⟨rfl, qr_in hK hT hG hb hc⟩)
  · refine hx _ (br_f (by decide) (hsx _ (wx_cb _ ?_)))
    unfold wpY_load
    exact hy _ (br_f (by decide) (hsy _ (wy_bi _ ⟨rfl, qr_in hK hT ⟨hin, hG.2⟩ hb hc⟩)))
theorem i_vc_add {k : Nat} {u : SX} {v : SY} (I : i_Rel k u v) (hk : k + 5 ≤ 2563) (v1 : Int32) (v2 : Int32) : wpX_add (fun r u' => wpY_add (fun r' v' => r' = r ∧ i_Rel (k + 5) u' v') v v1 v2) u v1 v2 := by
  refine qr_el (P := fun u v => wpX_add (fun r u' => wpY_add (fun r' v' => r' = r ∧ i_Rel (k + 5) u' v') v v1 v2) u v1 v2) ?_ I
  intro n s o q g wk bp bc cp ct sc ec pc ycz ybs yct yrc aW aT aM aR aG aB aL aC aS aE aD aF aO aK aP yG yB yC yA yV yP yI hK hT hG hb hc
  unfold wpX_add
  rcases qr_src (n := n) (o := o) (q := q) hK hG hb hc v1 v2 with ⟨hx, hy⟩ | ⟨p, hin, hx, hy, hsx, hsy⟩
  · refine hx _ (br_t rfl ?_)
    unfold wpY_add
    exact hy _ (br_t rfl ⟨rfl, qr_in hK hT hG hb hc⟩)
  · refine hx _ (br_f (by decide) (hsx _ (nm_e (wx_cb _ ?_))))
    unfold wpY_add
    exact hy _ (br_f (by decide) (hsy _ (nm_e (wy_bi _ ⟨rfl, qr_in hK hT ⟨qa_in_xor hG.1 hin, hG.2⟩ hb hc⟩))))
theorem i_vc_times {k : Nat} {u : SX} {v : SY} (I : i_Rel k u v) (hk : k + 5 ≤ 2563) (v1 : Int32) (v2 : Int32) : wpX_times (fun r u' => wpY_times (fun r' v' => r' = r ∧ i_Rel (k + 5) u' v') v v1 v2) u v1 v2 := by
  refine qr_el (P := fun u v => wpX_times (fun r u' => wpY_times (fun r' v' => r' = r ∧ i_Rel (k + 5) u' v') v v1 v2) u v1 v2) ?_ I
  intro n s o q g wk bp bc cp ct sc ec pc ycz ybs yct yrc aW aT aM aR aG aB aL aC aS aE aD aF aO aK aP yG yB yC yA yV yP yI hK hT hG hb hc
  have hz : qa_sz s := by rw [hK.2.2.1]; exact qa_sz_n hK.2.1
  unfold wpX_times
  rcases qr_src (n := n) (o := o) (q := q) hK hG hb hc v1 v2 with ⟨hx, hy⟩ | ⟨p, hin, hx, hy, hsx, hsy⟩
  · refine hx _ (br_t rfl ?_)
    unfold wpY_times
    exact hy _ (br_t rfl ⟨rfl, qr_in hK hT hG hb hc⟩)
  · refine hx _ (br_f (by decide) (hsx _ (wx_pr hK.2.1 hK.2.2.1 hT.1 hG.1 (wx_cb _ ?_))))
    unfold wpY_times
    exact hy _ (br_f (by decide) (hsy _ (wy_pr hz.2.1 hG.1 hin (wy_bi _ ⟨rfl, qr_in hK hT ⟨qa_pr_in hz hG.1 hin, hG.2⟩ hb hc⟩))))
theorem i_vc_addProduct {k : Nat} {u : SX} {v : SY} (I : i_Rel k u v) (hk : k + 5 ≤ 2563) (v1 : Int32) (v2 : Int32) (v3 : Int32) (v4 : Int32) : wpX_addProduct (fun r u' => wpY_addProduct (fun r' v' => r' = r ∧ i_Rel (k + 5) u' v') v v1 v2 v3 v4) u v1 v2 v3 v4 := by
  refine qr_el (P := fun u v => wpX_addProduct (fun r u' => wpY_addProduct (fun r' v' => r' = r ∧ i_Rel (k + 5) u' v') v v1 v2 v3 v4) u v1 v2 v3 v4) ?_ I
  intro n s o q g wk bp bc cp ct sc ec pc ycz ybs yct yrc aW aT aM aR aG aB aL aC aS aE aD aF aO aK aP yG yB yC yA yV yP yI hK hT hG hb hc
  have hz : qa_sz s := by rw [hK.2.2.1]; exact qa_sz_n hK.2.1
  unfold wpX_addProduct
  rcases qr_src (n := n) (o := o) (q := q) hK hG hb hc v1 v2 with ⟨hx, hy⟩ | ⟨p, hin, hx, hy, hsx, hsy⟩
  · refine hx _ (br_t rfl ?_)
    unfold wpY_addProduct
    exact hy _ (br_t rfl ⟨rfl, qr_in hK hT hG hb hc⟩)
  · rcases qr_src (n := n) (o := o) (q := q) hK hG hb hc v3 v4 with ⟨hx2, hy2⟩ | ⟨p2, hin2, hx2, hy2, hsx2, hsy2⟩
    · refine hx _ (br_f (by decide) (hx2 _ (br_t rfl ?_)))
      unfold wpY_addProduct
      exact hy _ (br_f (by decide) (hy2 _ (br_t rfl ⟨rfl, qr_in hK hT hG hb hc⟩)))
    · refine hx _ (br_f (by decide) (hx2 _ (br_f (by decide) (hsx _ (hsx2 _ (wx_pr hK.2.1 hK.2.2.1 hT.1 hin (nm_e (wx_cb _ ?_))))))))
      unfold wpY_addProduct
      exact hy _ (br_f (by decide) (hy2 _ (br_f (by decide) (hsy _ (hsy2 _ (wy_pr hz.2.1 hin hin2 (nm_e (wy_bi _ ⟨rfl, qr_in hK hT ⟨qa_in_xor hG.1 (qa_pr_in hz hin hin2), hG.2⟩ hb hc⟩))))))))
theorem i_vc_poly {k : Nat} {u : SX} {v : SY} (I : i_Rel k u v) (hk : k + 5 ≤ 2563) (v1 : Int32) (v2 : Int32) : wpX_poly (fun r => wpY_poly (fun r' => r' = r ∧ i_Rel (k + 5) u v) v v1 v2) u v1 v2 := by
  refine qr_el (P := fun u v => wpX_poly (fun r => wpY_poly (fun r' => r' = r ∧ i_Rel (k + 5) u v) v v1 v2) u v1 v2) ?_ I
  intro n s o q g wk bp bc cp ct sc ec pc ycz ybs yct yrc aW aT aM aR aG aB aL aC aS aE aD aF aO aK aP yG yB yC yA yV yP yI hK hT hG hb hc
  unfold wpX_poly
  rcases qr_src (n := n) (o := o) (q := q) hK hG hb hc v1 v2 with ⟨hx, hy⟩ | ⟨p, hin, hx, hy, hsx, hsy⟩
  · refine hx _ (br_t rfl ?_)
    unfold wpY_poly
    exact hy _ (br_t rfl ⟨rfl, qr_in hK hT hG hb hc⟩)
  · exact hx _ (br_f (by decide) (hsx _ (hsy _ ⟨rfl, qr_in hK hT hG hb hc⟩)))
theorem i_vc_lead {k : Nat} {u : SX} {v : SY} (I : i_Rel k u v) (hk : k + 5 ≤ 2563) (v1 : Int32) (v2 : Int32) : wpX_lead (fun r => wpY_lead (fun r' => r' = r ∧ i_Rel (k + 5) u v) v v1 v2) u v1 v2 := by
  refine qr_el (P := fun u v => wpX_lead (fun r => wpY_lead (fun r' => r' = r ∧ i_Rel (k + 5) u v) v v1 v2) u v1 v2) ?_ I
  intro n s o q g wk bp bc cp ct sc ec pc ycz ybs yct yrc aW aT aM aR aG aB aL aC aS aE aD aF aO aK aP yG yB yC yA yV yP yI hK hT hG hb hc
  have hz : qa_sz s := by rw [hK.2.2.1]; exact qa_sz_n hK.2.1
  have ho := hK.2.2.2.1
  have R := qr_in (k := k + 5) (sc := sc) (ec := ec) (pc := pc) (aR := aR) (aS := aS) (aE := aE) (aD := aD) (aF := aF) (aO := aO) (aK := aK) (yrc := yrc) (yV := yV) (yP := yP) (yI := yI) hK hT hG hb hc
  unfold wpX_lead
  rcases qr_src (n := n) (o := o) (q := q) hK hG hb hc v1 v2 with ⟨hx, hy⟩ | ⟨p, hin, hx, hy, hsx, hsy⟩
  · refine hx _ (br_t rfl ?_)
    unfold wpY_lead
    exact hy _ (br_t rfl ⟨rfl, R⟩)
  · refine hx _ (br_f (by decide) (hsx _ (br_c (fun hp => ?_) (fun hp => ?_))))
    · unfold wpY_lead
      exact hy _ (br_f (by decide) (hsy _ (wy_ld ho hz.2.1 hin (fun _ => ⟨rfl, R⟩) (fun m hm => absurd hp (qa_nz' hm.1)))))
    · obtain ⟨m, hm⟩ := qa_ld_ex (qa_wt o 0) hp
      refine wx_lo (qa_wt_wo ho 0) hz.2.1 hT.2.2.1 hin hm ?_
      unfold wpY_lead
      exact hy _ (br_f (by decide) (hsy _ (wy_ld ho hz.2.1 hin (fun z => absurd z hp) (fun m' hm' => ⟨by rw [qa_ld_un (qa_wt_wo ho 0) hm' hm], R⟩))))
theorem i_vc_value {k : Nat} {u : SX} {v : SY} (I : i_Rel k u v) (hk : k + 5 ≤ 2563) (v1 : Int32) (v2 : Int32) (v3 : Int32) : wpX_value (fun r => wpY_value (fun r' => r' = r ∧ i_Rel (k + 5) u v) v v1 v2 v3) u v1 v2 v3 := by
  refine qr_el (P := fun u v => wpX_value (fun r => wpY_value (fun r' => r' = r ∧ i_Rel (k + 5) u v) v v1 v2 v3) u v1 v2 v3) ?_ I
  intro n s o q g wk bp bc cp ct sc ec pc ycz ybs yct yrc aW aT aM aR aG aB aL aC aS aE aD aF aO aK aP yG yB yC yA yV yP yI hK hT hG hb hc
  have hz : qa_sz s := by rw [hK.2.2.1]; exact qa_sz_n hK.2.1
  have s32 := hz.2.1
  have R := qr_in (k := k + 5) (sc := sc) (ec := ec) (pc := pc) (aR := aR) (aS := aS) (aE := aE) (aD := aD) (aF := aF) (aO := aO) (aK := aK) (yrc := yrc) (yV := yV) (yP := yP) (yI := yI) hK hT hG hb hc
  unfold wpX_value
  rcases qr_src (n := n) (o := o) (q := q) hK hG hb hc v1 v2 with ⟨hx, hy⟩ | ⟨p, hin, hx, hy, hsx, hsy⟩
  · refine hx _ (br_t rfl ?_)
    unfold wpY_value
    exact hy _ (br_t rfl ⟨rfl, R⟩)
  · refine hx _ (br_f (by decide) ?_)
    rcases pk_ix v3 (n := s) (by omega) with h3 | h3 | ⟨x, hxs, rfl⟩
    · refine br_t h3 ?_
      unfold wpY_value
      exact hy _ (br_f (by decide) (br_t h3 ⟨rfl, R⟩))
    · have n3 : ¬ v3 < nI s := Int32.not_lt.mpr h3
      have n0 : ¬ v3 < 0 := fun z => Int32.lt_irrefl (Int32.lt_of_le_of_lt h3 (Int32.lt_of_lt_of_le z (nI_pos' (n := s) (by omega))))
      refine br_f n0 (br_f n3 ?_)
      unfold wpY_value
      exact hy _ (br_f (by decide) (br_f n0 (br_f n3 ⟨rfl, R⟩)))
    · refine br_f (nI_pos (by omega)) (br_t (nI_lt hxs (by omega)) (hsx _ (wx_va hT.2.1 _ (by omega) ?_)))
      unfold wpY_value
      refine hy _ (br_f (by decide) (br_f (nI_pos (by omega)) (br_t (nI_lt hxs (by omega)) (hsy _ (wy_vl s32 hin ⟨?_, R⟩)))))
      rw [qa_t _ (by omega), qy_vl_bt s32, decide_eq_true hxs, Bool.true_and]
theorem i_vc_order {k : Nat} {u : SX} {v : SY} (I : i_Rel k u v) (hk : k + 5 ≤ 2563) : wpX_order (fun r => wpY_order (fun r' => r' = r ∧ i_Rel (k + 5) u v) v) u := by
  refine qr_el (P := fun u v => wpX_order (fun r => wpY_order (fun r' => r' = r ∧ i_Rel (k + 5) u v) v) u) ?_ I
  intro n s o q g wk bp bc cp ct sc ec pc ycz ybs yct yrc aW aT aM aR aG aB aL aC aS aE aD aF aO aK aP yG yB yC yA yV yP yI hK hT hG hb hc
  unfold wpX_order
  unfold wpY_order
  exact ⟨rfl, qr_in hK hT hG hb hc⟩
theorem i_vc_capacity {k : Nat} {u : SX} {v : SY} (I : i_Rel k u v) (hk : k + 5 ≤ 2563) : wpX_capacity (fun r => wpY_capacity (fun r' => r' = r ∧ i_Rel (k + 5) u v) v) u := by
  refine qr_el (P := fun u v => wpX_capacity (fun r => wpY_capacity (fun r' => r' = r ∧ i_Rel (k + 5) u v) v) u) ?_ I
  intro n s o q g wk bp bc cp ct sc ec pc ycz ybs yct yrc aW aT aM aR aG aB aL aC aS aE aD aF aO aK aP yG yB yC yA yV yP yI hK hT hG hb hc
  unfold wpX_capacity
  unfold wpY_capacity
  exact ⟨rfl, qr_in hK hT hG hb hc⟩
end
section
/-! ===== the calls that change orders and generators ===== -/
theorem i_vc_count {k : Nat} {u : SX} {v : SY} (I : i_Rel k u v) (hk : k + 5 ≤ 2563) (v1 : Int32) : wpX_count (fun r => wpY_count (fun r' => r' = r ∧ i_Rel (k + 5) u v) v v1) u v1 := by
  refine qr_el (P := fun u v => wpX_count (fun r => wpY_count (fun r' => r' = r ∧ i_Rel (k + 5) u v) v v1) u v1) ?_ I
  intro n s o q g wk bp bc cp ct sc ec pc ycz ybs yct yrc aW aT aM aR aG aB aL aC aS aE aD aF aO aK aP yG yB yC yA yV yP yI hK hT hG hb hc
  have R := qr_in (k := k + 5) (sc := sc) (ec := ec) (pc := pc) (aR := aR) (aS := aS) (aE := aE) (aD := aD) (aF := aF) (aO := aO) (aK := aK) (yrc := yrc) (yV := yV) (yP := yP) (yI := yI) hK hT hG hb hc
  by_cases h0 : v1 < 0
  · exact br_t h0 (br_t h0 ⟨rfl, R⟩)
  · by_cases h5 : v1 ≤ 5
    · obtain ⟨j, hj, rfl⟩ := nI_of2 (M := 5) (n := 5) (by decide) h0 h5
      have : j = 0 ∨ j = 1 ∨ j = 2 ∨ j = 3 ∨ j = 4 ∨ j = 5 := by omega
      rcases this with rfl | rfl | rfl | rfl | rfl | rfl
      · exact br_f h0 (br_t h5 (br_f (by decide) (br_f (by decide) (br_f (by decide) (br_f h0 (br_f (by decide) (br_t rfl (br_f h0 (br_t h5 (br_t rfl ⟨rfl, R⟩))))))))))
      · exact br_f h0 (br_t h5 (br_f (by decide) (br_f (by decide) (br_f (by decide) (br_f h0 (br_f (by decide) (br_f (by decide) (br_t rfl (br_f h0 (br_t h5 (br_f (by decide) (br_t rfl ⟨rfl, R⟩))))))))))))
      · rcases hb with e0 | ⟨e1, b, l, h10, e2, e3, hr⟩
        · exact br_f h0 (br_t h5 (br_t rfl (br_t e0 (br_f h0 (br_t h5 (br_f (by decide) (br_f (by decide) (br_t rfl (br_t e0 ⟨rfl, R⟩)))))))))
        · have hne : ¬ bp = 0 := by rw [e1]; decide
          exact br_f h0 (br_t h5 (br_t rfl (br_f hne (br_f (by decide) (br_f (by decide) (br_f h0 (br_f (by decide) (br_f (by decide) (br_f (by decide) (br_t rfl (br_f hne (br_f h0 (br_t h5 (br_f (by decide) (br_f (by decide) (br_t rfl (br_f hne ⟨by rw [e2, e3], R⟩)))))))))))))))))
      · rcases hc with e0 | ⟨e1, hr⟩
        · exact br_f h0 (br_t h5 (br_f (by decide) (br_t rfl (br_t e0 (br_f h0 (br_t h5 (br_f (by decide) (br_f (by decide) (br_f (by decide) (br_t rfl (br_t e0 ⟨rfl, R⟩)))))))))))
        · have hne : ¬ cp = 0 := by rw [e1]; decide
          exact br_f h0 (br_t h5 (br_f (by decide) (br_t rfl (br_f hne (br_f h0 (br_f (by decide) (br_f (by decide) (br_f (by decide) (br_f (by decide) (br_t rfl (br_f hne (br_f h0 (br_t h5 (br_f (by decide) (br_f (by decide) (br_f (by decide) (br_t rfl (br_f hne ⟨rfl, R⟩))))))))))))))))))
      · exact br_f h0 (br_t h5 (br_f (by decide) (br_f (by decide) (br_f (by decide) (br_f h0 (br_f (by decide) (br_f (by decide) (br_f (by decide) (br_f (by decide) (br_f (by decide) (br_t rfl (br_f h0 (br_t h5 (br_f (by decide) (br_f (by decide) (br_f (by decide) (br_f (by decide) (br_t rfl ⟨rfl, R⟩))))))))))))))))))
      · rcases hc with e0 | ⟨e1, hr⟩
        · exact br_f h0 (br_t h5 (br_f (by decide) (br_f (by decide) (br_t rfl (br_t e0 (br_f h0 (br_t h5 (br_f (by decide) (br_f (by decide) (br_f (by decide) (br_f (by decide) (br_f (by decide) (br_t e0 ⟨rfl, R⟩)))))))))))))
        · have hne : ¬ cp = 0 := by rw [e1]; decide
          exact br_f h0 (br_t h5 (br_f (by decide) (br_f (by decide) (br_t rfl (br_f hne (br_f h0 (br_f (by decide) (br_f (by decide) (br_f (by decide) (br_f (by decide) (br_f (by decide) (br_f (by decide) (br_t rfl (br_f hne (br_f h0 (br_t h5 (br_f (by decide) (br_f (by decide) (br_f (by decide) (br_f (by decide) (br_f (by decide) (br_f hne ⟨rfl, R⟩))))))))))))))))))))))
    · exact br_f h0 (br_f h5 (br_f h0 (br_f h5 ⟨rfl, R⟩)))
theorem i_vc_setOrder {k : Nat} {u : SX} {v : SY} (I : i_Rel k u v) (hk : k + 5 ≤ 2563) (v1 : Int32) : wpX_setOrder (fun r u' => wpY_setOrder (fun r' v' => r' = r ∧ i_Rel (k + 5) u' v') v v1) u v1 := by
  refine qr_el (P := fun u v => wpX_setOrder (fun r u' => wpY_setOrder (fun r' v' => r' = r ∧ i_Rel (k + 5) u' v') v v1) u v1) ?_ I
  intro n s o q g wk bp bc cp ct sc ec pc ycz ybs yct yrc aW aT aM aR aG aB aL aC aS aE aD aF aO aK aP yG yB yC yA yV yP yI hK hT hG hb hc
  have hz : qa_sz s := by rw [hK.2.2.1]; exact qa_sz_n hK.2.1
  by_cases h0 : v1 < 0
  · exact br_t h0 (br_t h0 ⟨rfl, qr_in hK hT hG hb hc⟩)
  · by_cases h2 : v1 ≤ 2
    · obtain ⟨j, hj, rfl⟩ := nI_of2 (M := 2) (n := 2) (by decide) h0 h2
      refine br_f h0 (br_t h2 (wx_rk (k := 0) (by omega) hz.2.1 (by omega) ?_))
      intro aM' aR' hA
      unfold wpX_forgetBasis
      refine br_f h0 (br_t h2 (wy_so (by omega) hz.2.1 ?_))
      intro yA' hA'
      exact ⟨rfl, qr_in ⟨hK.1, hK.2.1, hK.2.2.1, by omega, hK.2.2.2.2⟩ ⟨hT.1, hT.2.1, hA, hA', hT.2.2.2.2⟩ hG (Or.inl rfl) (Or.inl rfl)⟩
    · exact br_f h0 (br_f h2 (br_f h0 (br_f h2 ⟨rfl, qr_in hK hT hG hb hc⟩)))
theorem i_vc_addGenerator {k : Nat} {u : SX} {v : SY} (I : i_Rel k u v) (hk : k + 5 ≤ 2563) : wpX_addGenerator (fun r u' => wpY_addGenerator (fun r' v' => r' = r ∧ i_Rel (k + 5) u' v') v) u := by
  refine qr_el (P := fun u v => wpX_addGenerator (fun r u' => wpY_addGenerator (fun r' v' => r' = r ∧ i_Rel (k + 5) u' v') v) u) ?_ I
  intro n s o q g wk bp bc cp ct sc ec pc ycz ybs yct yrc aW aT aM aR aG aB aL aC aS aE aD aF aO aK aP yG yB yC yA yV yP yI hK hT hG hb hc
  obtain ⟨k1, k2, k3, k4, k5, k6, k7⟩ := hK
  by_cases h0 : wk = 0
  · exact br_t h0 (br_t h0 ⟨rfl, qr_in ⟨k1, k2, k3, k4, k5, k6, k7⟩ hT hG hb hc⟩)
  · by_cases hlt : g < q
    · have hi : nI g < nI q := nI_lt hlt (by omega)
      have v8 : vp_in (nI g) 8 := vp_in_nI (by omega) (by decide)
      have c1 : (nI g).toNatClampNeg = g := nI_clamp (by omega)
      refine br_f h0 (br_t hi ⟨v8, nm_r (e' := upd aG g wk) (by rw [c1]) (nm_r (nI_1 g) ?_)⟩)
      unfold wpX_forgetBasis
      refine br_f h0 (br_t hi ⟨v8, nm_r (e' := upd yG g wk) (by rw [c1]) (nm_r (nI_1 g) ⟨nI_pred g, qr_in ⟨k1, k2, k3, k4, k5, k6, by omega⟩ hT ⟨qa_in_0 s, fun i hi => ?_⟩ (Or.inl rfl) (Or.inl rfl)⟩)⟩)
      by_cases ei : i = g
      · rw [ei, pk_us, pk_us]; exact ⟨rfl, hG.1⟩
      · rw [pk_un ei, pk_un ei]; exact hG.2 i (by omega)
    · have hi : ¬ nI g < nI q := nI_nlt (by omega) (by omega)
      exact br_f h0 (br_f hi (br_f h0 (br_f hi ⟨rfl, qr_in ⟨k1, k2, k3, k4, k5, k6, k7⟩ hT hG hb hc⟩)))
section
variable {vc sz od rm wk gc bp bc cp ct sc ec pc : Int32} {aW aT aM aR aG aB aL aC aS aE aD aF aO aK aP : Nat → Int32} {ysz yrm yod ywk ygc ybp ycz ybs ycp yct yrc : Int32} {yG yB yC yA yV yP yI : Nat → Int32} {g j : Nat}
theorem wx_dg {post : Int32 → SX → Prop} (hg : g ≤ 8) (hj : j < g) (H : ∀ aH : Nat → Int32, (∀ i, i + 1 < g → aH i = if i < j then aG i else aG (i + 1)) → post (nI (g - 1)) (vc, sz, od, rm, wk, nI (g - 1), 0, 0, 0, ct, sc, ec, pc, aW, aT, aM, aR, aH, aB, aL, aC, aS, aE, aD, aF, aO, aK, aP)) :
    ∀ d x, x + d + 1 = g → j ≤ x → ∀ f, d < f → ∀ aH : Nat → Int32, (∀ i, aH i = if i < j then aG i else if i < x then aG (i + 1) else aG i) → wX_dropGenerator_16 post vc sz od rm wk (nI g) bp bc cp ct sc ec pc f (nI x) aW aT aM aR aH aB aL aC aS aE aD aF aO aK aP := by
  intro d
  induction d with
  | zero =>
    intro x hx hjx f hf aH h
    obtain ⟨f, rfl⟩ : ∃ k, f = k + 1 := ⟨f - 1, by omega⟩
    obtain ⟨g, rfl⟩ : ∃ z, g = z + 1 := ⟨g - 1, by omega⟩
    refine br_t (by rw [nI_1]; exact nI_le (by omega) (by omega)) (nm_r (nI_pred g) ?_)
    unfold wpX_forgetBasis
    refine H aH fun i hi => ?_
    rw [h i]
    by_cases c : i < j
    · rw [if_pos c, if_pos c]
    · rw [if_neg c, if_neg c, if_pos (by omega)]
  | succ d ih =>
    intro x hx hjx f hf aH h
    obtain ⟨f, rfl⟩ : ∃ k, f = k + 1 := ⟨f - 1, by omega⟩
    have v1 : vp_in (nI x + 1) 8 := by rw [nI_1]; exact vp_in_nI (by omega) (by decide)
    refine br_f (by rw [nI_1]; exact nI_ge (by omega) (by omega)) ⟨v1, vp_in_nI (by omega) (by decide), nm_r (e' := upd aH x (aG (x + 1))) ?_ (nm_r (nI_1 x) (ih (x + 1) (by omega) (by omega) f (by omega) _ fun i => ?_))⟩
    · rw [nI_1, nI_clamp (by omega), nI_clamp (by omega), h (x + 1), if_neg (by omega), if_neg (by omega)]
    · by_cases ei : i = x
      · rw [ei, pk_us, if_neg (by omega), if_pos (by omega)]
      · rw [pk_un ei, h i]
        by_cases c : i < j
        · rw [if_pos c, if_pos c]
        · rw [if_neg c, if_neg c]
          by_cases c2 : i < x
          · rw [if_pos c2, if_pos (by omega)]
          · rw [if_neg c2, if_neg (by omega)]
theorem wy_dg {post : Int32 → SY → Prop} (hg : g ≤ 8) (hj : j < g) (H : ∀ aH : Nat → Int32, (∀ i, i + 1 < g → aH i = if i < j then yG i else yG (i + 1)) → post (nI (g - 1)) (ysz, yrm, yod, ywk, nI (g - 1), 0, ycz, ybs, 0, yct, yrc, aH, yB, yC, yA, yV, yP, yI)) :
    ∀ d x, x + d + 1 = g → j ≤ x → ∀ f, d < f → ∀ aH : Nat → Int32, (∀ i, aH i = if i < j then yG i else if i < x then yG (i + 1) else yG i) → wY_dropGenerator_16 post ysz yrm yod ywk (nI g) ybp ycz ybs ycp yct yrc f (nI x) aH yB yC yA yV yP yI := by
  obtain ⟨g, rfl⟩ : ∃ z, g = z + 1 := ⟨g - 1, by omega⟩
  intro d
  induction d with
  | zero =>
    intro x hx hjx f hf aH h
    obtain ⟨f, rfl⟩ : ∃ k, f = k + 1 := ⟨f - 1, by omega⟩
    refine br_t (by rw [nI_pred]; exact nI_le (by omega) (by omega)) (nm_r (nI_pred g) ?_)
    refine H aH fun i hi => ?_
    rw [h i]
    by_cases c : i < j
    · rw [if_pos c, if_pos c]
    · rw [if_neg c, if_neg c, if_pos (by omega)]
  | succ d ih =>
    intro x hx hjx f hf aH h
    obtain ⟨f, rfl⟩ : ∃ k, f = k + 1 := ⟨f - 1, by omega⟩
    have v1 : vp_in (nI x + 1) 8 := by rw [nI_1]; exact vp_in_nI (by omega) (by decide)
    refine br_f (by rw [nI_pred]; exact nI_ge (by omega) (by omega)) ⟨v1, vp_in_nI (by omega) (by decide), nm_r (e' := upd aH x (yG (x + 1))) ?_ (nm_r (nI_1 x) (ih (x + 1) (by omega) (by omega) f (by omega) _ fun i => ?_))⟩
    · rw [nI_1, nI_clamp (by omega), nI_clamp (by omega), h (x + 1), if_neg (by omega), if_neg (by omega)]
    · by_cases ei : i = x
      · rw [ei, pk_us, if_neg (by omega), if_pos (by omega)]
      · rw [pk_un ei, h i]
        by_cases c : i < j
        · rw [if_pos c, if_pos c]
        · rw [if_neg c, if_neg c]
          by_cases c2 : i < x
          · rw [if_pos c2, if_pos (by omega)]
          · rw [if_neg c2, if_neg (by omega)]
theorem wx_ad {post : Int32 → SX → Prop} {b : Nat} (hb : b ≤ 8) (H : ∀ aG : Nat → Int32, (∀ i, i < b → aG i = aB i) → post (nI b) (vc, sz, od, rm, wk, nI b, bp, nI b, 0, ct, sc, ec, pc, aW, aT, aM, aR, aG, aB, aL, aC, aS, aE, aD, aF, aO, aK, aP)) :
    ∀ d x, x + d = b → ∀ f, d < f → ∀ aG : Nat → Int32, (∀ i, i < x → aG i = aB i) → wX_adopt_26 post vc sz od rm wk gc bp (nI b) cp ct sc ec pc f (nI x) aW aT aM aR aG aB aL aC aS aE aD aF aO aK aP := by
  intro d
  induction d with
  | zero =>
    intro x hx f hf aG h
    obtain ⟨f, rfl⟩ : ∃ k, f = k + 1 := ⟨f - 1, by omega⟩
    have ex : x = b := by omega
    subst ex
    exact br_t (nI_le (by omega) (by omega)) (H aG h)
  | succ d ih =>
    intro x hx f hf aG h
    obtain ⟨f, rfl⟩ : ∃ k, f = k + 1 := ⟨f - 1, by omega⟩
    have c1 : (nI x).toNatClampNeg = x := nI_clamp (by omega)
    refine br_f (nI_ge (by omega) (by omega)) ⟨vp_in_nI (by omega) (by decide), vp_in_nI (by omega) (by decide), nm_r (e' := upd aG x (aB x)) (by rw [c1]) (nm_r (nI_1 x) (ih (x + 1) (by omega) f (by omega) _ fun i hi => ?_))⟩
    by_cases ei : i = x
    · rw [ei, pk_us]
    · rw [pk_un ei]; exact h i (by omega)
theorem wy_ad {post : Int32 → SY → Prop} {b : Nat} (hb : b ≤ 8) (H : ∀ yG : Nat → Int32, (∀ i, i < b → yG i = yB i) → post (nI b) (ysz, yrm, yod, ywk, nI b, ybp, ycz, nI b, 0, yct, yrc, yG, yB, yC, yA, yV, yP, yI)) :
    ∀ d x, x + d = b → ∀ f, d < f → ∀ yG : Nat → Int32, (∀ i, i < x → yG i = yB i) → wY_adopt_26 post ysz yrm yod ywk ygc ybp ycz (nI b) ycp yct yrc f (nI x) yG yB yC yA yV yP yI := by
  intro d
  induction d with
  | zero =>
    intro x hx f hf yG h
    obtain ⟨f, rfl⟩ : ∃ k, f = k + 1 := ⟨f - 1, by omega⟩
    have ex : x = b := by omega
    subst ex
    exact br_t (nI_le (by omega) (by omega)) (H yG h)
  | succ d ih =>
    intro x hx f hf yG h
    obtain ⟨f, rfl⟩ : ∃ k, f = k + 1 := ⟨f - 1, by omega⟩
    have c1 : (nI x).toNatClampNeg = x := nI_clamp (by omega)
    refine br_f (nI_ge (by omega) (by omega)) ⟨vp_in_nI (by omega) (by decide), vp_in_nI (by omega) (by decide), nm_r (e' := upd yG x (yB x)) (by rw [c1]) (nm_r (nI_1 x) (ih (x + 1) (by omega) f (by omega) _ fun i hi => ?_))⟩
    by_cases ei : i = x
    · rw [ei, pk_us]
    · rw [pk_un ei]; exact h i (by omega)
end
theorem i_vc_dropGenerator {k : Nat} {u : SX} {v : SY} (I : i_Rel k u v) (hk : k + 5 ≤ 2563) (v1 : Int32) : wpX_dropGenerator (fun r u' => wpY_dropGenerator (fun r' v' => r' = r ∧ i_Rel (k + 5) u' v') v v1) u v1 := by
  refine qr_el (P := fun u v => wpX_dropGenerator (fun r u' => wpY_dropGenerator (fun r' v' => r' = r ∧ i_Rel (k + 5) u' v') v v1) u v1) ?_ I
  intro n s o q g wk bp bc cp ct sc ec pc ycz ybs yct yrc aW aT aM aR aG aB aL aC aS aE aD aF aO aK aP yG yB yC yA yV yP yI hK hT hG hb hc
  obtain ⟨k1, k2, k3, k4, k5, k6, k7⟩ := hK
  have R := qr_in (k := k + 5) (sc := sc) (ec := ec) (pc := pc) (aR := aR) (aS := aS) (aE := aE) (aD := aD) (aF := aF) (aO := aO) (aK := aK) (yrc := yrc) (yV := yV) (yP := yP) (yI := yI) ⟨k1, k2, k3, k4, k5, k6, k7⟩ hT hG hb hc
  rcases pk_ix v1 (n := g) (by omega) with h0 | h0 | ⟨j, hj, rfl⟩
  · exact br_t h0 (br_t h0 ⟨rfl, R⟩)
  · have n3 : ¬ v1 < nI g := Int32.not_lt.mpr h0
    have n0 : ¬ v1 < 0 := fun z => Int32.lt_irrefl (Int32.lt_of_le_of_lt h0 (Int32.lt_of_lt_of_le z (nI_pos' (n := g) (by omega))))
    exact br_f n0 (br_f n3 (br_f n0 (br_f n3 ⟨rfl, R⟩)))
  · refine br_f (nI_pos (by omega)) (br_t (nI_lt hj (by omega)) ⟨g + 1, wx_dg (aG := aG) (by omega) hj ?_ (g - 1 - j) j (by omega) (Nat.le_refl _) (g + 1) (by omega) aG (fun i => ?_)⟩)
    · intro aH hH
      refine br_f (nI_pos (by omega)) (br_t (nI_lt hj (by omega)) ⟨g + 1, wy_dg (yG := yG) (by omega) hj ?_ (g - 1 - j) j (by omega) (Nat.le_refl _) (g + 1) (by omega) yG (fun i => ?_)⟩)
      · intro yH hyH
        refine ⟨rfl, qr_in ⟨k1, k2, k3, k4, k5, k6, by omega⟩ hT ⟨hG.1, fun i hi => ?_⟩ (Or.inl rfl) (Or.inl rfl)⟩
        rw [hH i (by omega), hyH i (by omega)]
        by_cases c : i < j
        · rw [if_pos c, if_pos c]; exact hG.2 i (by omega)
        · rw [if_neg c, if_neg c]; exact hG.2 (i + 1) (by omega)
      · by_cases c : i < j
        · rw [if_pos c]
        · rw [if_neg c, if_neg c]
    · by_cases c : i < j
      · rw [if_pos c]
      · rw [if_neg c, if_neg c]
theorem i_vc_adopt {k : Nat} {u : SX} {v : SY} (I : i_Rel k u v) (hk : k + 5 ≤ 2563) : wpX_adopt (fun r u' => wpY_adopt (fun r' v' => r' = r ∧ i_Rel (k + 5) u' v') v) u := by
  refine qr_el (P := fun u v => wpX_adopt (fun r u' => wpY_adopt (fun r' v' => r' = r ∧ i_Rel (k + 5) u' v') v) u) ?_ I
  intro n s o q g wk bp bc cp ct sc ec pc ycz ybs yct yrc aW aT aM aR aG aB aL aC aS aE aD aF aO aK aP yG yB yC yA yV yP yI hK hT hG hb hc
  obtain ⟨k1, k2, k3, k4, k5, k6, k7⟩ := hK
  have hz : qa_sz s := by rw [k3]; exact qa_sz_n k2
  rcases hb with e0 | ⟨e1, b, l, h10, e2, e3, hin, hRB, hRL, hL, hB⟩
  · exact br_t e0 (br_t e0 ⟨rfl, qr_in ⟨k1, k2, k3, k4, k5, k6, k7⟩ hT hG (Or.inl e0) hc⟩)
  · have hne : ¬ bp = 0 := by rw [e1]; decide
    subst e2 e3
    by_cases hbq : b ≤ q
    · have hG' := qa_RB_G (qa_wt_wo k4 0) hz hRB hRL
      refine br_f hne (br_t (nI_le hbq (by omega)) ⟨b + 1, wx_ad (by omega) ?_ b 0 (by omega) (b + 1) (by omega) aG (fun i hi => absurd hi (Nat.not_lt_zero i))⟩)
      intro aH hH
      refine br_f hne (br_t (nI_le hbq (by omega)) ⟨b + 1, wy_ad (by omega) ?_ b 0 (by omega) (b + 1) (by omega) yG (fun i hi => absurd hi (Nat.not_lt_zero i))⟩)
      intro yH hyH
      refine ⟨rfl, qr_in ⟨k1, k2, k3, k4, k5, k6, hbq⟩ hT ⟨hG.1, fun i hi => ?_⟩ (Or.inr ⟨e1, b, l, h10, rfl, rfl, hin, hRB, hRL, hL, hB⟩) (Or.inl rfl)⟩
      rw [hH i hi, hyH i hi]
      exact ⟨hB i hi, (hG'.1 i hi).1⟩
    · have hn : ¬ nI b ≤ nI q := nI_ge (by omega) (by omega)
      exact br_f hne (br_f hn (br_f hne (br_f hn ⟨rfl, qr_in ⟨k1, k2, k3, k4, k5, k6, k7⟩ hT hG (Or.inr ⟨e1, b, l, h10, rfl, rfl, hin, hRB, hRL, hL, hB⟩) hc⟩)))
theorem qr_1n : ∀ n, n < 6 → (1 : Int32) <<< (nI n &&& 31) = nI (2 ^ n) := by decide +kernel
theorem i_vc0 (k0 : Int32) (k1 : Int32) (k2 : Int32) : wpX_init (fun u => wpY_init (fun v => i_Rel 3 u v) k0 k1 k2) k0 k1 k2 := by
  obtain ⟨n, n1, n2, hx1, hy1⟩ := wx_cl k0 (lo := 1) (hi := 5) (by omega) (by omega)
  obtain ⟨q, q1, q2, hx2, hy2⟩ := wx_cl k1 (lo := 1) (hi := 8) (by omega) (by omega)
  obtain ⟨o, o1, o2, hx3, hy3⟩ := wx_cl k2 (lo := 0) (hi := 2) (by omega) (by omega)
  have hz : qa_sz (2 ^ n) := qa_sz_n n2
  have e1 := qr_1n n (by omega)
  unfold wpX_init
  refine hx1 _ _ (nm_r e1 (hx2 _ _ (hx3 _ _ (wx_ft ?_))))
  intro aW aT hW hT
  refine wx_rk (k := 0) (by omega) hz.2.1 (by omega) ?_
  intro aM aR hA
  unfold wpY_init
  refine hy1 _ _ (nm_r e1 (hy2 _ _ (hy3 _ _ (wy_so (by omega) hz.2.1 ?_))))
  intro yA hA'
  exact qr_in (g := 0) ⟨n1, n2, rfl, by omega, q1, q2, by omega⟩ ⟨hW, hT, hA, hA', fun _ => Or.inl rfl⟩ ⟨qa_in_0 _, fun i hi => absurd hi (Nat.not_lt_zero i)⟩ (Or.inl rfl) (Or.inl rfl)
end
section
/-! ===== the calls that read the basis ===== -/
section
variable {w : Nat → Nat} {s e : Nat} {g g' : Nat → Int32} {l : Nat → Nat} {Z Z' : Nat → Prop}
theorem qa_van_cg (h : ∀ x, x < s → (Z x ↔ Z' x)) {p : Int32} (hp : qa_van s Z p) : qa_van s Z' p := fun x hx hz => hp x hx ((h x hx).mpr hz)
theorem qa_G_cg (h : ∀ x, x < s → (Z x ↔ Z' x)) (hG : qa_G w s e g l Z) : qa_G w s e g l Z' :=
  ⟨fun i hi => ⟨(hG.1 i hi).1, (hG.1 i hi).2.1, qa_van_cg h (hG.1 i hi).2.2⟩, fun f m hf hv hm => hG.2 f m hf (qa_van_cg (fun x hx => (h x hx).symm) hv) hm⟩
theorem qa_nf_cg (h : ∀ x, x < s → (Z x ↔ Z' x)) {p r : Int32} (hn : qa_nf w s Z p r) : qa_nf w s Z' p r :=
  ⟨hn.1, qa_van_cg h hn.2.1, fun m hm f hf hl hv => hn.2.2 m hm f hf hl (qa_van_cg (fun x hx => (h x hx).symm) hv)⟩
theorem qa_G_cgg (h : ∀ i, i < e → g' i = g i) (hG : qa_G w s e g l Z) : qa_G w s e g' l Z :=
  ⟨fun i hi => by rw [h i hi]; exact hG.1 i hi, hG.2⟩
end
theorem qr_B {o : Nat} (ho : o < 3) : ∀ a, a < 32 → qa_wt o 0 a < 1048576 := fun _ ha => qa_wt_bd ho 0 ha
section
variable {vc sz od rm wk gc bp bc cp ct sc ec pc : Int32} {aW aT aM aR aG aB aL aC aS aE aD aF aO aK aP : Nat → Int32} {ysz yrm yod ywk ygc ybp ycz ybs ycp yct yrc : Int32} {yG yB yC yA yV yP yI : Nat → Int32} {n s o b : Nat}
theorem wx_iz {post : Int32 → Prop} (hT : qx_T aT) (hb : b ≤ 10) {x : Nat} (hx : x < 32) (h1 : (∀ i, i < b → qa_ev (aB i) x = false) → post 1) (h0 : ¬ (∀ i, i < b → qa_ev (aB i) x = false) → post 0) : wpX_isZero post (vc, sz, od, rm, wk, gc, bp, nI b, cp, ct, sc, ec, pc, aW, aT, aM, aR, aG, aB, aL, aC, aS, aE, aD, aF, aO, aK, aP) (nI x) := by
  have key : ∀ d i, i + d = b → (∀ i', i' < i → qa_ev (aB i') x = false) → ∀ f, d < f → wX_isZero_2 post (nI x) vc sz od rm wk gc bp (nI b) cp ct sc ec pc aW aT aM aR aG aB aL aC aS aE aD aF aO aK aP f (nI i) := by
    intro d
    induction d with
    | zero =>
      intro i hi h f hf
      obtain ⟨f, rfl⟩ : ∃ k, f = k + 1 := ⟨f - 1, by omega⟩
      have ei : i = b := by omega
      subst ei
      exact br_t (nI_le (by omega) (by omega)) (h1 h)
    | succ d ih =>
      intro i hi h f hf
      obtain ⟨f, rfl⟩ : ∃ k, f = k + 1 := ⟨f - 1, by omega⟩
      refine br_f (nI_ge (by omega) (by omega)) ⟨vp_in_nI (by omega) (by decide), ?_⟩
      rw [nI_clamp (n := i) (by omega)]
      refine wx_va hT _ hx ?_
      cases e1 : qa_ev (aB i) x
      · refine br_t rfl (nm_r (nI_1 i) (ih (i + 1) (by omega) (fun i' hi' => ?_) f (by omega)))
        by_cases ei : i' = i
        · rw [ei]; exact e1
        · exact h i' (by omega)
      · refine br_f (by decide) (h0 fun z => ?_)
        rw [z i (by omega)] at e1
        exact nomatch e1
  exact ⟨b + 1, key b 0 (by omega) (fun i hi => absurd hi (Nat.not_lt_zero i)) (b + 1) (by omega)⟩
theorem wx_zc {post : Int32 → Prop} {z : Int32} (hT : qx_T aT) (hb : b ≤ 10) (hs : s ≤ 32) (hz : ∀ x, x < s → ((∀ i, i < b → qa_ev (aB i) x = false) ↔ bt z x = true)) (h : post (nI (qc_pc z s))) : ∃ n14, wX_zeroCount_14 post vc (nI s) od rm wk gc bp (nI b) cp ct sc ec pc aW aT aM aR aG aB aL aC aS aE aD aF aO aK aP n14 0 0 := by
  have key : ∀ d x, x + d = s → ∀ f, d < f → wX_zeroCount_14 post vc (nI s) od rm wk gc bp (nI b) cp ct sc ec pc aW aT aM aR aG aB aL aC aS aE aD aF aO aK aP f (nI (qc_pc z x)) (nI x) := by
    intro d
    induction d with
    | zero =>
      intro x hx f hf
      obtain ⟨f, rfl⟩ : ∃ k, f = k + 1 := ⟨f - 1, by omega⟩
      have ex : x = s := by omega
      subst ex
      exact br_t (nI_le (by omega) (by omega)) h
    | succ d ih =>
      intro x hx f hf
      obtain ⟨f, rfl⟩ : ∃ k, f = k + 1 := ⟨f - 1, by omega⟩
      have nx := ih (x + 1) (by omega) f (by omega)
      have hzx := hz x (by omega)
      refine br_f (nI_ge (by omega) (by omega)) (wx_iz hT hb (by omega) (fun h1 => ?_) (fun h0 => ?_))
      · have e1 : qc_pc z (x + 1) = qc_pc z x + 1 := by
          show qc_pc z x + (if bt z x then 1 else 0) = _
          rw [if_pos (hzx.mp h1)]
        rw [e1] at nx
        exact br_f (by decide) (nm_r (nI_1 _) (nm_r (nI_1 x) nx))
      · have e1 : qc_pc z (x + 1) = qc_pc z x := by
          show qc_pc z x + (if bt z x then 1 else 0) = _
          rw [if_neg (fun y => h0 (hzx.mpr y))]
          rfl
        rw [e1] at nx
        exact br_t rfl (nm_r (nI_1 x) nx)
  exact ⟨s + 1, key s 0 (by omega) (s + 1) (by omega)⟩
theorem qc_pc_up {z : Int32} {s : Nat} (h : qa_in s z) : ∀ d, qc_pc z (s + d) = qc_pc z s
  | 0 => rfl
  | d + 1 => by
    have ih := qc_pc_up h d
    show qc_pc z (s + d) + (if bt z (s + d) then 1 else 0) = _
    rw [if_neg (fun y => by have := h _ y; omega), ih]
    rfl
theorem wxy_nz {z : Int32} (hT : qx_T aT) (hb : b ≤ 10) (hs : s ≤ 32) (hz : ∀ x, x < s → ((∀ i, i < b → qa_ev (aB i) x = false) ↔ bt z x = true)) :
    ∀ d x, x + d = s → ∃ r : Int32, (∀ post : Int32 → Prop, post r → ∀ f, d < f → wX_nextZero_26 post vc (nI s) od rm wk gc bp (nI b) cp ct sc ec pc aW aT aM aR aG aB aL aC aS aE aD aF aO aK aP f (nI x)) ∧ (∀ post : Int32 → Prop, post r → ∀ f, d < f → wY_nextZero_26 post (nI s) yrm yod ywk ygc ybp z ybs ycp yct yrc yG yB yC yA yV yP yI f (nI x)) := by
  intro d
  induction d with
  | zero =>
    intro x hx
    refine ⟨-5, fun post hp f hf => ?_, fun post hp f hf => ?_⟩
    · obtain ⟨f, rfl⟩ : ∃ k, f = k + 1 := ⟨f - 1, by omega⟩
      exact br_t (nI_le (by omega) (by omega)) hp
    · obtain ⟨f, rfl⟩ : ∃ k, f = k + 1 := ⟨f - 1, by omega⟩
      exact br_t (nI_le (by omega) (by omega)) hp
  | succ d ih =>
    intro x hx
    have hzx := hz x (by omega)
    cases e1 : bt z x
    · obtain ⟨r, hX, hY⟩ := ih (x + 1) (by omega)
      refine ⟨r, fun post hp f hf => ?_, fun post hp f hf => ?_⟩
      · obtain ⟨f, rfl⟩ : ∃ k, f = k + 1 := ⟨f - 1, by omega⟩
        refine br_f (nI_ge (by omega) (by omega)) (wx_iz hT hb (by omega) (fun h1 => ?_) (fun h0 => br_t rfl (nm_r (nI_1 x) (hX post hp f (by omega)))))
        rw [hzx.mp h1] at e1
        exact nomatch e1
      · obtain ⟨f, rfl⟩ : ∃ k, f = k + 1 := ⟨f - 1, by omega⟩
        refine br_f (nI_ge (by omega) (by omega)) (qa_br1 (by omega) (fun h1 => ?_) (fun _ => nm_r (nI_1 x) (hY post hp f (by omega))))
        rw [h1] at e1
        exact nomatch e1
    · refine ⟨nI x, fun post hp f hf => ?_, fun post hp f hf => ?_⟩
      · obtain ⟨f, rfl⟩ : ∃ k, f = k + 1 := ⟨f - 1, by omega⟩
        exact br_f (nI_ge (by omega) (by omega)) (wx_iz hT hb (by omega) (fun _ => br_f (by decide) hp) (fun h0 => absurd (hzx.mpr e1) h0))
      · obtain ⟨f, rfl⟩ : ∃ k, f = k + 1 := ⟨f - 1, by omega⟩
        refine br_f (nI_ge (by omega) (by omega)) (qa_br1 (by omega) (fun _ => hp) (fun h1 => ?_))
        rw [h1] at e1
        exact nomatch e1
theorem wx_is {post : Int32 → Prop} {l : Nat → Nat} (hb : b ≤ 10) (hL : ∀ i, i < b → aL i = nI (l i) ∧ l i < 32) {m : Nat} (h1 : (∀ i, i < b → ¬ l i &&& m = l i) → post 1) (h0 : ¬ (∀ i, i < b → ¬ l i &&& m = l i) → post 0) : ∃ n26, wX_isStandard_26 post (nI m) vc sz od rm wk gc bp (nI b) cp ct sc ec pc aW aT aM aR aG aB aL aC aS aE aD aF aO aK aP n26 0 := by
  have key : ∀ d i, i + d = b → (∀ i', i' < i → ¬ l i' &&& m = l i') → ∀ f, d < f → wX_isStandard_26 post (nI m) vc sz od rm wk gc bp (nI b) cp ct sc ec pc aW aT aM aR aG aB aL aC aS aE aD aF aO aK aP f (nI i) := by
    intro d
    induction d with
    | zero =>
      intro i hi h f hf
      obtain ⟨f, rfl⟩ : ∃ k, f = k + 1 := ⟨f - 1, by omega⟩
      have ei : i = b := by omega
      subst ei
      exact br_t (nI_le (by omega) (by omega)) (h1 h)
    | succ d ih =>
      intro i hi h f hf
      obtain ⟨f, rfl⟩ : ∃ k, f = k + 1 := ⟨f - 1, by omega⟩
      have vi : vp_in (nI i) 10 := vp_in_nI (by omega) (by decide)
      have hLi := hL i (by omega)
      refine br_f (nI_ge (by omega) (by omega)) ⟨vi, vi, qx_dvb (a := l i) (by rw [nI_clamp (by omega)]; exact hLi.1) hLi.2 (fun hd => h0 fun z => z i (by omega) hd) (fun hd => nm_r (nI_1 i) (ih (i + 1) (by omega) (fun i' hi' => ?_) f (by omega)))⟩
      by_cases ei : i' = i
      · rw [ei]; exact hd
      · exact h i' (by omega)
  exact ⟨b + 1, key b 0 (by omega) (fun i hi => absurd hi (Nat.not_lt_zero i)) (b + 1) (by omega)⟩
end
theorem i_vc_isMember {k : Nat} {u : SX} {v : SY} (I : i_Rel k u v) (hk : k + 5 ≤ 2563) : wpX_isMember (fun r u' => wpY_isMember (fun r' => r' = r ∧ i_Rel (k + 5) u' v) v) u := by
  refine qr_el (P := fun u v => wpX_isMember (fun r u' => wpY_isMember (fun r' => r' = r ∧ i_Rel (k + 5) u' v) v) u) ?_ I
  intro n s o q g wk bp bc cp ct sc ec pc ycz ybs yct yrc aW aT aM aR aG aB aL aC aS aE aD aF aO aK aP yG yB yC yA yV yP yI hK hT hG hb hc
  have hz : qa_sz s := by rw [hK.2.2.1]; exact qa_sz_n hK.2.1
  have ho := hK.2.2.2.1
  have hw := qa_wt_wo ho 0
  have hb0 := hb
  rcases hb with e0 | ⟨e1, b, l, h10, e2, e3, hin, hRB, hRL, hL, hB⟩
  · exact br_t e0 (br_t e0 ⟨rfl, qr_in hK hT hG hb0 hc⟩)
  · have hne : ¬ bp = 0 := by rw [e1]; decide
    subst e2 e3
    have hGB := qa_RB_G hw hz hRB hRL
    refine br_f hne (wx_bb h10 ?_)
    intro aE' aD' hED
    have hE : qx_E (qa_wt o 0) s b aE' aD' l := ⟨by omega, fun i hi => by rw [(hED i hi).1, (hED i hi).2]; exact ⟨hL i hi, (hGB.1 i hi).1, (hGB.1 i hi).2.1⟩⟩
    obtain ⟨r, hr, hwp⟩ := wx_nfG (od := nI o) (rm := nI q) (wk := wk) (gc := nI g) (bp := bp) (bc := nI b) (cp := cp) (ct := ct) (sc := sc) (pc := pc) (aT := aT) (aR := aR) (aG := aG) (aB := aB) (aL := aL) (aC := aC) (aS := aS) (aF := aF) (aO := aO) (aK := aK) (aP := aP) hK.2.1 hK.2.2.1 hT.1 hw (qr_B ho) hT.2.2.1 hE (qa_G_cgg (fun i hi => (hED i hi).1) hGB) hG.1
    refine hwp _ ?_
    have h1 := qa_nf_z hr
    rw [qy_van hz.2.1] at h1
    refine br_c (fun hr0 => br_f hne (wy_vl hz.2.1 hG.1 (br_t (h1.mp hr0) ⟨rfl, qr_in hK hT hG hb0 hc⟩))) (fun hr0 => br_f hne (wy_vl hz.2.1 hG.1 (br_f (fun y => hr0 (h1.mpr y)) ⟨rfl, qr_in hK hT hG hb0 hc⟩)))
theorem i_vc_reduce {k : Nat} {u : SX} {v : SY} (I : i_Rel k u v) (hk : k + 5 ≤ 2563) : wpX_reduce (fun r u' => wpY_reduce (fun r' v' => r' = r ∧ i_Rel (k + 5) u' v') v) u := by
  refine qr_el (P := fun u v => wpX_reduce (fun r u' => wpY_reduce (fun r' v' => r' = r ∧ i_Rel (k + 5) u' v') v) u) ?_ I
  intro n s o q g wk bp bc cp ct sc ec pc ycz ybs yct yrc aW aT aM aR aG aB aL aC aS aE aD aF aO aK aP yG yB yC yA yV yP yI hK hT hG hb hc
  have hz : qa_sz s := by rw [hK.2.2.1]; exact qa_sz_n hK.2.1
  have ho := hK.2.2.2.1
  have hw := qa_wt_wo ho 0
  have hb0 := hb
  rcases hb with e0 | ⟨e1, b, l, h10, e2, e3, hin, hRB, hRL, hL, hB⟩
  · exact br_t e0 (br_t e0 ⟨rfl, qr_in hK hT hG hb0 hc⟩)
  · have hne : ¬ bp = 0 := by rw [e1]; decide
    subst e2 e3
    have hGB := qa_RB_G hw hz hRB hRL
    refine br_f hne (wx_bb h10 ?_)
    intro aE' aD' hED
    have hE : qx_E (qa_wt o 0) s b aE' aD' l := ⟨by omega, fun i hi => by rw [(hED i hi).1, (hED i hi).2]; exact ⟨hL i hi, (hGB.1 i hi).1, (hGB.1 i hi).2.1⟩⟩
    obtain ⟨r, hr, hwp⟩ := wx_nfG (od := nI o) (rm := nI q) (wk := wk) (gc := nI g) (bp := bp) (bc := nI b) (cp := cp) (ct := ct) (sc := sc) (pc := pc) (aT := aT) (aR := aR) (aG := aG) (aB := aB) (aL := aL) (aC := aC) (aS := aS) (aF := aF) (aO := aO) (aK := aK) (aP := aP) hK.2.1 hK.2.2.1 hT.1 hw (qr_B ho) hT.2.2.1 hE (qa_G_cgg (fun i hi => (hED i hi).1) hGB) hG.1
    refine hwp _ (wx_cb _ ?_)
    refine br_f hne (wy_nf hw hz.2.1 hT.2.2.2.1 hG.1 ?_)
    intro r' yrc' yV' yP' yI' hr'
    have er := qa_nf_un hr' hr
    subst er
    exact wy_bi _ ⟨rfl, qr_in hK hT ⟨hr.1, hG.2⟩ hb0 hc⟩
theorem i_vc_isStandard {k : Nat} {u : SX} {v : SY} (I : i_Rel k u v) (hk : k + 5 ≤ 2563) (v1 : Int32) : wpX_isStandard (fun r => wpY_isStandard (fun r' v' => r' = r ∧ i_Rel (k + 5) u v') v v1) u v1 := by
  refine qr_el (P := fun u v => wpX_isStandard (fun r => wpY_isStandard (fun r' v' => r' = r ∧ i_Rel (k + 5) u v') v v1) u v1) ?_ I
  intro n s o q g wk bp bc cp ct sc ec pc ycz ybs yct yrc aW aT aM aR aG aB aL aC aS aE aD aF aO aK aP yG yB yC yA yV yP yI hK hT hG hb hc
  have hz : qa_sz s := by rw [hK.2.2.1]; exact qa_sz_n hK.2.1
  have s32 := hz.2.1
  have ho := hK.2.2.2.1
  have hw := qa_wt_wo ho 0
  have hb0 := hb
  have R := qr_in (k := k + 5) (sc := sc) (ec := ec) (pc := pc) (aR := aR) (aS := aS) (aE := aE) (aD := aD) (aF := aF) (aO := aO) (aK := aK) (yrc := yrc) (yV := yV) (yP := yP) (yI := yI) hK hT hG hb hc
  rcases pk_ix v1 (n := s) (by omega) with h0 | h0 | ⟨m, hm, rfl⟩
  · exact br_t h0 (br_t h0 ⟨rfl, R⟩)
  · have n3 : ¬ v1 < nI s := Int32.not_lt.mpr h0
    have n0 : ¬ v1 < 0 := fun z => Int32.lt_irrefl (Int32.lt_of_le_of_lt h0 (Int32.lt_of_lt_of_le z (nI_pos' (n := s) (by omega))))
    exact br_f n0 (br_f n3 (br_f n0 (br_f n3 ⟨rfl, R⟩)))
  · have p0 : ¬ nI m < 0 := nI_pos (by omega)
    have ps : nI m < nI s := nI_lt hm (by omega)
    rcases hb with e0 | ⟨e1, b, l, h10, e2, e3, hin, hRB, hRL, hL, hB⟩
    · exact br_f p0 (br_t ps (br_t e0 (br_f p0 (br_t ps (br_t e0 ⟨rfl, R⟩)))))
    · have hne : ¬ bp = 0 := by rw [e1]; decide
      subst e2 e3
      have hGB := qa_RB_G hw hz hRB hRL
      have hst := qa_G_std hw hz hGB hm
      refine br_f p0 (br_t ps (br_f hne (wx_is (l := l) h10 (fun i hi => ⟨hL i hi, qa_lt (hGB.1 i hi).2.1.1⟩) (fun h1 => ?_) (fun h1 => ?_))))
      · refine br_f p0 (br_t ps (br_f hne (wy_nf hw s32 hT.2.2.2.1 (q := qa_mo m) (qa_in_mo s32 hm) ?_)))
        intro r' yrc' yV' yP' yI' hr'
        exact br_t ((qa_nf_mo hz hm hr').mpr (hst.mpr h1)) ⟨rfl, qr_in hK hT hG hb0 hc⟩
      · refine br_f p0 (br_t ps (br_f hne (wy_nf hw s32 hT.2.2.2.1 (q := qa_mo m) (qa_in_mo s32 hm) ?_)))
        intro r' yrc' yV' yP' yI' hr'
        exact br_f (fun y => h1 (hst.mp ((qa_nf_mo hz hm hr').mp y))) ⟨rfl, qr_in hK hT hG hb0 hc⟩
theorem i_vc_zeroCount {k : Nat} {u : SX} {v : SY} (I : i_Rel k u v) (hk : k + 5 ≤ 2563) : wpX_zeroCount (fun r => wpY_zeroCount (fun r' => r' = r ∧ i_Rel (k + 5) u v) v) u := by
  refine qr_el (P := fun u v => wpX_zeroCount (fun r => wpY_zeroCount (fun r' => r' = r ∧ i_Rel (k + 5) u v) v) u) ?_ I
  intro n s o q g wk bp bc cp ct sc ec pc ycz ybs yct yrc aW aT aM aR aG aB aL aC aS aE aD aF aO aK aP yG yB yC yA yV yP yI hK hT hG hb hc
  have hz : qa_sz s := by rw [hK.2.2.1]; exact qa_sz_n hK.2.1
  have s32 := hz.2.1
  have ho := hK.2.2.2.1
  have hw := qa_wt_wo ho 0
  have hb0 := hb
  rcases hb with e0 | ⟨e1, b, l, h10, e2, e3, hin, hRB, hRL, hL, hB⟩
  · exact br_t e0 (br_t e0 ⟨rfl, qr_in hK hT hG hb0 hc⟩)
  · have hne : ¬ bp = 0 := by rw [e1]; decide
    subst e2 e3
    have hGB := qa_RB_G hw hz hRB hRL
    refine br_f hne (wx_zc (z := ycz) hT.2.1 h10 s32 (fun x hx => qa_G_zeros hw hz (qr_B ho) hGB hx) ?_)
    refine br_f hne (wy_bi _ ⟨?_, qr_in hK hT hG hb0 hc⟩)
    have := qc_pc_up hin (32 - s)
    rw [show s + (32 - s) = 32 by omega] at this
    rw [this]
theorem i_vc_nextZero {k : Nat} {u : SX} {v : SY} (I : i_Rel k u v) (hk : k + 5 ≤ 2563) (v1 : Int32) : wpX_nextZero (fun r => wpY_nextZero (fun r' => r' = r ∧ i_Rel (k + 5) u v) v v1) u v1 := by
  refine qr_el (P := fun u v => wpX_nextZero (fun r => wpY_nextZero (fun r' => r' = r ∧ i_Rel (k + 5) u v) v v1) u v1) ?_ I
  intro n s o q g wk bp bc cp ct sc ec pc ycz ybs yct yrc aW aT aM aR aG aB aL aC aS aE aD aF aO aK aP yG yB yC yA yV yP yI hK hT hG hb hc
  have hz : qa_sz s := by rw [hK.2.2.1]; exact qa_sz_n hK.2.1
  have s32 := hz.2.1
  have ho := hK.2.2.2.1
  have hw := qa_wt_wo ho 0
  have hb0 := hb
  have R := qr_in (k := k + 5) (sc := sc) (ec := ec) (pc := pc) (aR := aR) (aS := aS) (aE := aE) (aD := aD) (aF := aF) (aO := aO) (aK := aK) (yrc := yrc) (yV := yV) (yP := yP) (yI := yI) hK hT hG hb hc
  rcases pk_ix v1 (n := s) (by omega) with h0 | h0 | ⟨m, hm, rfl⟩
  · exact br_t h0 (br_t h0 ⟨rfl, R⟩)
  · have n3 : ¬ v1 < nI s := Int32.not_lt.mpr h0
    have n0 : ¬ v1 < 0 := fun z => Int32.lt_irrefl (Int32.lt_of_le_of_lt h0 (Int32.lt_of_lt_of_le z (nI_pos' (n := s) (by omega))))
    exact br_f n0 (br_f n3 (br_f n0 (br_f n3 ⟨rfl, R⟩)))
  · have p0 : ¬ nI m < 0 := nI_pos (by omega)
    have ps : nI m < nI s := nI_lt hm (by omega)
    rcases hb with e0 | ⟨e1, b, l, h10, e2, e3, hin, hRB, hRL, hL, hB⟩
    · exact br_f p0 (br_t ps (br_t e0 (br_f p0 (br_t ps (br_t e0 ⟨rfl, R⟩)))))
    · have hne : ¬ bp = 0 := by rw [e1]; decide
      subst e2 e3
      have hGB := qa_RB_G hw hz hRB hRL
      obtain ⟨r, hX, hY⟩ := wxy_nz (vc := nI n) (od := nI o) (rm := nI q) (wk := wk) (gc := nI g) (bp := bp) (cp := cp) (ct := ct) (sc := sc) (ec := ec) (pc := pc) (aW := aW) (aM := aM) (aR := aR) (aG := aG) (aL := aL) (aC := aC) (aS := aS) (aE := aE) (aD := aD) (aF := aF) (aO := aO) (aK := aK) (aP := aP) (yrm := nI q) (yod := nI o) (ywk := wk) (ygc := nI g) (ybp := bp) (ybs := nI b) (ycp := cp) (yct := yct) (yrc := yrc) (yG := yG) (yB := yB) (yC := yC) (yA := yA) (yV := yV) (yP := yP) (yI := yI) (z := ycz) hT.2.1 h10 s32 (fun x hx => qa_G_zeros hw hz (qr_B ho) hGB hx) (s - m) m (by omega)
      exact br_f p0 (br_t ps (br_f hne ⟨s + 1, hX _ (br_f p0 (br_t ps (br_f hne ⟨s + 1, hY _ ⟨rfl, R⟩ (s + 1) (by omega)⟩))) (s + 1) (by omega)⟩))
end
section
/-! ===== completing and eliminating ===== -/
theorem qy_cz_in {s : Nat} (hs : s ≤ 32) (g : Nat → Int32) (k : Nat) : qa_in s (qy_cz s g k) := fun m hm => ((qy_cz_bt hs g k m).mp hm).1
section
variable {vc sz od rm wk gc bp bc cp ct sc ec pc : Int32} {aW aT aM aR aG aB aL aC aS aE aD aF aO aK aP : Nat → Int32} {ysz yrm yod ywk ygc ybp ycz ybs ycp yct yrc : Int32} {yG yB yC yA yV yP yI : Nat → Int32} {n s o : Nat} {w : Nat → Nat}
theorem wx_co {post : Int32 → SX → Prop} {Z : Nat → Prop} {g : Nat} (hn : n ≤ 5) (hs : s = 2 ^ n) (hW : qx_W aW) (hw : qa_wo w) {B : Nat} (hB : ∀ a, a < 32 → w a < B) (hA : qa_As w s aM) (hP : ∀ j, aP j = 0 ∨ aP j = 1) (hg : g ≤ 8) (hG : ∀ i, i < g → qa_in s (aG i)) (hZ : ∀ x, x < s → ((∀ i, i < g → qa_ev (aG i) x = false) ↔ Z x))
    (H : ∀ (b : Nat) (l : Nat → Nat) (sc ec pc : Int32) (aB aL aS aE aD aF aO aK aP : Nat → Int32), b ≤ 10 → qa_RB w s Z b aB → qa_RL w s Z l → (∀ i, i < b → aL i = nI (l i)) → (∀ j, aP j = 0 ∨ aP j = 1) → post (nI b) (nI n, nI s, od, rm, wk, nI g, 1, nI b, cp, ct, sc, ec, pc, aW, aT, aM, aR, aG, aB, aL, aC, aS, aE, aD, aF, aO, aK, aP)) :
    ∀ d j, j + d = g → ∀ f, d < f → ∀ aS : Nat → Int32, (∀ i, i < j → aS i = aG i) → wX_complete_7 post f (nI j) (nI n) (nI s) od rm wk (nI g) bp bc cp ct (nI j) ec pc aW aT aM aR aG aB aL aC aS aE aD aF aO aK aP := by
  intro d
  induction d with
  | zero =>
    intro j hj f hf aS h
    obtain ⟨f, rfl⟩ : ∃ k, f = k + 1 := ⟨f - 1, by omega⟩
    have ej : j = g := by omega
    subst ej
    refine br_t (nI_le (by omega) (by omega)) (wx_cs (ec := ec) (pc := pc) hn hs hW hw hB hA hP (by omega) (fun i hi => by rw [h i hi]; exact hG i hi) ?_)
    intro e l aE' aD' aF' aO' aK' aP' hE _ hGB hP'
    refine wx_eb (Z := Z) (bc := bc) hn hs hW hw hB hA hE (qa_G_cg (fun x hx => ?_) hGB) ?_
    · rw [← hZ x hx]
      constructor
      · intro z i hi
        rw [← h i hi]; exact z i hi
      · intro z i hi
        rw [h i hi]; exact z i hi
    · intro b aB' aL' l2 h10 hRB hRL hL
      exact H b l2 (nI j) (nI e) (nI 0) aB' aL' aS aE' aD' aF' aO' aK' aP' h10 hRB hRL hL hP'
  | succ d ih =>
    intro j hj f hf aS h
    obtain ⟨f, rfl⟩ : ∃ k, f = k + 1 := ⟨f - 1, by omega⟩
    refine br_f (nI_ge (by omega) (by omega)) ⟨vp_in_nI (by omega) (by decide), ?_⟩
    rw [nI_clamp (n := j) (by omega)]
    refine wx_st (by omega) _ (nm_r (nI_1 j) (ih (j + 1) (by omega) f (by omega) _ fun i hi => ?_))
    by_cases ei : i = j
    · rw [ei, pk_us]
    · rw [pk_un ei]; exact h i (by omega)
end
theorem i_vc_complete {k : Nat} {u : SX} {v : SY} (I : i_Rel k u v) (hk : k + 5 ≤ 2563) : wpX_complete (fun r u' => wpY_complete (fun r' v' => r' = r ∧ i_Rel (k + 5) u' v') v) u := by
  refine qr_el (P := fun u v => wpX_complete (fun r u' => wpY_complete (fun r' v' => r' = r ∧ i_Rel (k + 5) u' v') v) u) ?_ I
  intro n s o q g wk bp bc cp ct sc ec pc ycz ybs yct yrc aW aT aM aR aG aB aL aC aS aE aD aF aO aK aP yG yB yC yA yV yP yI hK hT hG hb hc
  obtain ⟨k1, k2, k3, k4, k5, k6, k7⟩ := hK
  have hz : qa_sz s := by rw [k3]; exact qa_sz_n k2
  have s32 := hz.2.1
  have hw := qa_wt_wo k4 0
  have hYG : ∀ i, i < g → qa_in s (yG i) := fun i hi => by rw [(hG.2 i hi).1]; exact (hG.2 i hi).2
  refine ⟨g + 1, wx_co (Z := qy_Z (qy_cz s yG g)) k2 k3 hT.1 hw (qr_B k4) hT.2.2.1 hT.2.2.2.2 (by omega) (fun i hi => (hG.2 i hi).2) (fun x hx => ?_) ?_ g 0 (by omega) (g + 1) (by omega) aS (fun i hi => absurd hi (Nat.not_lt_zero i))⟩
  · show _ ↔ bt (qy_cz s yG g) x = true
    rw [qy_cz_bt s32]
    constructor
    · intro z
      exact ⟨hx, fun i hi => by rw [(hG.2 i hi).1]; exact z i hi⟩
    · intro ⟨_, z⟩ i hi
      rw [← (hG.2 i hi).1]; exact z i hi
  · intro b l sc' ec' pc' aB' aL' aS' aE' aD' aF' aO' aK' aP' h10 hRB hRL hL hP'
    unfold wpY_complete
    refine wy_cz s32 (by omega) hYG (wy_mb hw hz hT.2.2.2.1 ?_)
    intro b' yrc' yB' yV' yP' yI' hRB'
    obtain ⟨eb, eB⟩ := qa_RB_un hRB' hRB
    subst eb
    exact ⟨rfl, qr_in ⟨k1, k2, k3, k4, k5, k6, k7⟩ ⟨hT.1, hT.2.1, hT.2.2.1, hT.2.2.2.1, hP'⟩ hG (Or.inr ⟨rfl, b', l, h10, rfl, rfl, qy_cz_in s32 yG g, hRB, hRL, hL, eB⟩) hc⟩
section
variable {vc sz od rm wk gc bp bc cp ct sc ec pc : Int32} {aW aT aM aR aG aB aL aC aS aE aD aF aO aK aP : Nat → Int32} {ysz yrm yod ywk ygc ybp ycz ybs ycp yct yrc : Int32} {yG yB yC yA yV yP yI : Nat → Int32} {n s o : Nat} {w : Nat → Nat}
/-- the zeros that are left -/
def qy_el (s k : Nat) (z0 z : Int32) : Prop := ∀ x, bt z x = true ↔ x < s ∧ ∃ y, y < s ∧ bt z0 y = true ∧ qa_df x k = qa_df y k
theorem wy_el2 {post : Int32 → SY → Prop} {J : Int32 → Int32 → Prop} {k x : Nat} (hs : s ≤ 32) (hk : k < 32) (hx : x < s) {z1 : Int32}
    (H : ∀ z : Int32, (∀ t, bt z t = true ↔ bt z1 t = true ∨ (t = x ∧ ∃ y, y < s ∧ bt ycz y = true ∧ qa_df x k = qa_df y k)) → J z (nI (x + 1))) :
    ∀ d y, y + d = s → ∀ f, d < f → ∀ z : Int32, (∀ t, bt z t = true ↔ bt z1 t = true ∨ (t = x ∧ ∃ y', y' < y ∧ bt ycz y' = true ∧ qa_df x k = qa_df y' k)) → wY_eliminate_39 post J (nI k) (nI x) (nI s) yrm yod ywk ygc ybp ycz ybs ycp yct yrc yG yB yC yA yV yP yI f z (nI y) := by
  intro d
  induction d with
  | zero =>
    intro y hy f hf z h
    obtain ⟨f, rfl⟩ : ∃ k, f = k + 1 := ⟨f - 1, by omega⟩
    have ey : y = s := by omega
    subst ey
    exact br_t (nI_le (by omega) (by omega)) (nm_r (nI_1 x) (H z h))
  | succ d ih =>
    intro y hy f hf z h
    obtain ⟨f, rfl⟩ : ∃ k, f = k + 1 := ⟨f - 1, by omega⟩
    have nx := ih (y + 1) (by omega) f (by omega)
    have keep : ¬ (bt ycz y = true ∧ qa_df x k = qa_df y k) → wY_eliminate_39 post J (nI k) (nI x) (nI s) yrm yod ywk ygc ybp ycz ybs ycp yct yrc yG yB yC yA yV yP yI f z (nI (y + 1)) := by
      intro hno
      refine nx z fun t => ?_
      rw [h t]
      constructor
      · intro g
        rcases g with g | ⟨g1, y', g2, g3, g4⟩
        · exact Or.inl g
        · exact Or.inr ⟨g1, y', by omega, g3, g4⟩
      · intro g
        rcases g with g | ⟨g1, y', g2, g3, g4⟩
        · exact Or.inl g
        · refine Or.inr ⟨g1, y', ?_, g3, g4⟩
          by_cases e : y' = y
          · rw [e] at g3 g4; exact absurd ⟨g3, g4⟩ hno
          · omega
    have x2 := qa_dn_lt (a := x) (k := k) (by omega)
    have y2 := qa_dn_lt (a := y) (k := k) (by omega)
    refine br_f (nI_ge (by omega) (by omega)) (qa_br1 (by omega) (fun hb => ?_) (fun hb => nm_r (nI_1 y) (keep fun g => by rw [hb] at g; exact nomatch g.1)))
    rw [qx_df x (by omega) k hk, qx_df y (by omega) k hk]
    refine pk_eq (qa_df x k) (qa_df y k) (fun e => nm_e (nm_r (nI_1 y) (nx _ fun t => ?_))) (fun ne => nm_r (nI_1 y) (keep fun g => ne g.2))
    show bt (z ||| qa_mo x) t = true ↔ _
    rw [b_or, qa_bm (by omega), Bool.or_eq_true, h t, decide_eq_true_eq]
    constructor
    · intro g
      rcases g with (g | ⟨g1, y', g2, g3, g4⟩) | g
      · exact Or.inl g
      · exact Or.inr ⟨g1, y', by omega, g3, g4⟩
      · exact Or.inr ⟨g, y, by omega, hb, e⟩
    · intro g
      rcases g with g | ⟨g1, _⟩
      · exact Or.inl (Or.inl g)
      · exact Or.inr g1
theorem wy_el1 {post : Int32 → SY → Prop} {k : Nat} (hw : qa_wo w) (hz : qa_sz s) (hk : k < 32) (hA : qa_As w s yA)
    (H : ∀ (z : Int32) (b : Nat) (yrc : Int32) (yB yV yP yI : Nat → Int32), qy_el s k ycz z → qa_RB w s (qy_Z z) b yB → post (nI b) (nI s, yrm, yod, ywk, ygc, 1, z, nI b, ycp, yct, yrc, yG, yB, yC, yA, yV, yP, yI)) :
    ∀ d x, x + d = s → ∀ f, d < f → ∀ z : Int32, (∀ t, bt z t = true ↔ t < x ∧ ∃ y, y < s ∧ bt ycz y = true ∧ qa_df t k = qa_df y k) → wY_eliminate_28 post (nI k) (nI s) yrm yod ywk ygc ybp ycz ybs ycp yct yrc yG yB yC yA yV yP yI f z (nI x) := by
  have s32 := hz.2.1
  intro d
  induction d with
  | zero =>
    intro x hx f hf z h
    obtain ⟨f, rfl⟩ : ∃ k, f = k + 1 := ⟨f - 1, by omega⟩
    have ex : x = s := by omega
    subst ex
    exact br_t (nI_le (by omega) (by omega)) (wy_mb hw hz hA (fun b yrc' yB' yV' yP' yI' hRB => H z b yrc' yB' yV' yP' yI' h hRB))
  | succ d ih =>
    intro x hx f hf z h
    obtain ⟨f, rfl⟩ : ∃ k, f = k + 1 := ⟨f - 1, by omega⟩
    refine br_f (nI_ge (by omega) (by omega)) ⟨s + 1, wy_el2 (z1 := z) s32 hk (by omega) (fun z' hz' => ih (x + 1) (by omega) f (by omega) z' fun t => ?_) s 0 (by omega) (s + 1) (by omega) z fun t => ?_⟩
    · rw [hz' t, h t]
      constructor
      · intro g
        rcases g with ⟨g1, g2⟩ | ⟨g1, g2⟩
        · exact ⟨by omega, g2⟩
        · rw [g1]; exact ⟨by omega, g2⟩
      · intro ⟨g1, g2⟩
        by_cases e : t = x
        · rw [e] at g2; exact Or.inr ⟨e, g2⟩
        · exact Or.inl ⟨by omega, g2⟩
    · constructor
      · intro g; exact Or.inl g
      · intro g
        rcases g with g | ⟨_, y', g2, _⟩
        · exact g
        · omega
theorem wy_el {post : Int32 → SY → Prop} {k : Nat} (hw : qa_wo w) (hz : qa_sz s) (hk : k < 32) (hA : qa_As w s yA)
    (H : ∀ (z : Int32) (b : Nat) (yrc : Int32) (yB yV yP yI : Nat → Int32), qy_el s k ycz z → qa_RB w s (qy_Z z) b yB → post (nI b) (nI s, yrm, yod, ywk, ygc, 1, z, nI b, ycp, yct, yrc, yG, yB, yC, yA, yV, yP, yI)) : ∃ n28, wY_eliminate_28 post (nI k) (nI s) yrm yod ywk ygc ybp ycz ybs ycp yct yrc yG yB yC yA yV yP yI n28 0 0 :=
  ⟨s + 1, wy_el1 hw hz hk hA H s 0 (by omega) (s + 1) (by omega) 0 fun t => by
    rw [b_0]
    exact ⟨fun g => (nomatch g), fun g => absurd g.1 (Nat.not_lt_zero t)⟩⟩
/-- the whole elimination of the component -/
theorem wx_el {post : Int32 → SX → Prop} {k b : Nat} {z : Int32} {l0 : Nat → Nat} (hn : n ≤ 5) (hs : s = 2 ^ n) (ho : o < 3) (hW : qx_W aW) (hP : ∀ j, aP j = 0 ∨ aP j = 1) (hk : k < 32) (hb : b ≤ 10)
    (hGB : qa_G (qa_wt o 0) s b aB l0 (qy_Z z)) {z' : Int32} (hz' : qy_el s k z z')
    (H : ∀ (b : Nat) (l : Nat → Nat) (sc ec pc : Int32) (aM aR aB aL aS aE aD aF aO aK aP : Nat → Int32), b ≤ 10 → qa_As (qa_wt o 0) s aM → qa_RB (qa_wt o 0) s (qy_Z z') b aB → qa_RL (qa_wt o 0) s (qy_Z z') l → (∀ i, i < b → aL i = nI (l i)) → (∀ j, aP j = 0 ∨ aP j = 1) → post (nI b) (nI n, nI s, nI o, rm, wk, gc, bp, nI b, cp, ct, sc, ec, pc, aW, aT, aM, aR, aG, aB, aL, aC, aS, aE, aD, aF, aO, aK, aP)) :
    ∀ d j, j + d = b → ∀ f, d < f → ∀ aS : Nat → Int32, (∀ i, i < j → aS i = aB i) → wX_eliminate_40 post (nI k) f (nI j) (nI n) (nI s) (nI o) rm wk gc bp (nI b) cp ct (nI j) ec pc aW aT aM aR aG aB aL aC aS aE aD aF aO aK aP := by
  have hz : qa_sz s := by rw [hs]; exact qa_sz_n hn
  have s32 := hz.2.1
  have hw0 := qa_wt_wo ho 0
  have hwk := qa_wt_wo ho k
  intro d
  induction d with
  | zero =>
    intro j hj f hf aS h
    obtain ⟨f, rfl⟩ : ∃ k, f = k + 1 := ⟨f - 1, by omega⟩
    have ej : j = b := by omega
    subst ej
    refine br_t (nI_le (by omega) (by omega)) (wx_rk ho s32 hk ?_)
    intro aM1 aR1 hA1
    refine wx_cs (ec := ec) (pc := pc) hn hs hW hwk (fun a ha => qa_wt_bd ho k ha) hA1 hP hb (fun i hi => by rw [h i hi]; exact (hGB.1 i hi).1) ?_
    intro e l aE1 aD1 aF1 aO1 aK1 aP1 hE1 hds1 hG1 hP1
    have hG1' : qa_G (qa_wt o k) s e aE1 l (qy_Z z) := qa_G_cg (fun x hx => by
      have g := qa_G_zeros hw0 hz (qr_B ho) hGB hx
      rw [← g]
      constructor
      · intro y i hi
        rw [← h i hi]; exact y i hi
      · intro y i hi
        rw [h i hi]; exact y i hi) hG1
    refine wx_su (sc := nI j) hE1 hds1 ?_
    intro m aS1 hm hS1 hS2
    refine wx_rk (k := 0) ho s32 (by omega) ?_
    intro aM2 aR2 hA2
    refine wx_cs (ec := nI e) (pc := nI 0) hn hs hW hw0 (qr_B ho) hA2 hP1 hm (fun i hi => ?_) ?_
    · obtain ⟨i', hi', ei, _⟩ := hS1 i hi
      rw [ei]; exact (hG1'.1 i' hi').1
    · intro e2 l2 aE2 aD2 aF2 aO2 aK2 aP2 hE2 _ hG2 hP2
      have hG2' : qa_G (qa_wt o 0) s e2 aE2 l2 (qy_Z z') := qa_G_cg (fun x hx => by
        have g := qa_elim (g := aE1) (l := l) (Z := qy_Z z) hwk hz (fun a ha => qa_wt_bd ho k ha) (k := k) (I := fun i => i < e ∧ l i &&& k = 0 ∧ qx_ML e l (l i)) (fun i hi => ⟨(hG1'.1 i hi.1).1, (hG1'.1 i hi.1).2.1, (hG1'.1 i hi.1).2.2, fun t ht => qa_wt_blk ho (qa_lt ht) (qa_lt (hG1'.1 i hi.1).2.1.1) hi.2.1 ((hG1'.1 i hi.1).2.1.2 t ht)⟩) (by
            intro p t hp hv hu hl
            have ts := hp t hl.1
            obtain ⟨c, c1, c2⟩ := qa_mn_ex (w := qa_wt o k) (Z := qy_Z z) t ts (fun y => y p hp hl hv)
            have c3 := (qa_G_mn hwk hz hG1' c1.1).mp c1
            obtain ⟨i, hi, ei⟩ := c3.1
            refine ⟨i, ⟨hi, ?_, by rw [ei]; exact c3⟩, by rw [ei]; exact c2⟩
            rw [ei]
            have t0 := hu t hl.1
            apply Nat.eq_of_testBit_eq
            intro a
            rw [Nat.testBit_and, Nat.zero_testBit]
            cases ca : c.testBit a
            · rfl
            · have h3 : (t &&& k).testBit a = false := by rw [t0]; exact Nat.zero_testBit a
              rw [Nat.testBit_and, qa_sb.mp c2 a ca, Bool.true_and] at h3
              rw [h3]; rfl) hx
        have g2 := hz' x
        show (∀ i, i < m → qa_ev (aS1 i) x = false) ↔ bt z' x = true
        rw [g2]
        constructor
        · intro y
          refine ⟨hx, g.mp fun i hi => ?_⟩
          obtain ⟨j', hj', ej'⟩ := hS2 i hi.1 hi.2.1 hi.2.2
          rw [← ej']; exact y j' hj'
        · intro ⟨_, y⟩ i hi
          obtain ⟨i', hi', ei, hi2⟩ := hS1 i hi
          rw [ei]; exact g.mpr y i' ⟨hi', hi2⟩) hG2
      refine wx_eb (bc := nI j) hn hs hW hw0 (qr_B ho) hA2 hE2 hG2' ?_
      intro b' aB' aL' l' h10 hRB hRL hL
      exact H b' l' (nI m) (nI e2) (nI 0) aM2 aR2 aB' aL' aS1 aE2 aD2 aF2 aO2 aK2 aP2 h10 hA2 hRB hRL hL hP2
  | succ d ih =>
    intro j hj f hf aS h
    obtain ⟨f, rfl⟩ : ∃ k, f = k + 1 := ⟨f - 1, by omega⟩
    refine br_f (nI_ge (by omega) (by omega)) ⟨vp_in_nI (by omega) (by decide), ?_⟩
    rw [nI_clamp (n := j) (by omega)]
    refine wx_st (by omega) _ (nm_r (nI_1 j) (ih (j + 1) (by omega) f (by omega) _ fun i hi => ?_))
    by_cases ei : i = j
    · rw [ei, pk_us]
    · rw [pk_un ei]; exact h i (by omega)
end
/-- there is such a set -/
theorem qy_el_ex (s k : Nat) (hs : s ≤ 32) (z0 : Int32) : ∃ z, qy_el s k z0 z := by
  have key : ∀ j, j ≤ s → ∃ z : Int32, ∀ x, bt z x = true ↔ x < j ∧ ∃ y, y < s ∧ bt z0 y = true ∧ qa_df x k = qa_df y k := by
    intro j
    induction j with
    | zero => exact fun _ => ⟨0, fun x => by rw [b_0]; exact ⟨fun g => (nomatch g), fun g => absurd g.1 (Nat.not_lt_zero x)⟩⟩
    | succ j ih =>
      intro hj
      obtain ⟨z, h⟩ := ih (by omega)
      by_cases c : ∃ y, y < s ∧ bt z0 y = true ∧ qa_df j k = qa_df y k
      · refine ⟨z ||| qa_mo j, fun x => ?_⟩
        rw [b_or, qa_bm (by omega), Bool.or_eq_true, h x, decide_eq_true_eq]
        constructor
        · intro g
          rcases g with ⟨g1, g2⟩ | g
          · exact ⟨by omega, g2⟩
          · rw [g]; exact ⟨by omega, c⟩
        · intro ⟨g1, g2⟩
          by_cases e : x = j
          · exact Or.inr e
          · exact Or.inl ⟨by omega, g2⟩
      · refine ⟨z, fun x => ?_⟩
        rw [h x]
        constructor
        · intro ⟨g1, g2⟩; exact ⟨by omega, g2⟩
        · intro ⟨g1, g2⟩
          refine ⟨?_, g2⟩
          by_cases e : x = j
          · rw [e] at g2; exact absurd g2 c
          · omega
  exact key s (Nat.le_refl s)
theorem qy_el_un {s k : Nat} {z0 z z' : Int32} (h : qy_el s k z0 z) (h' : qy_el s k z0 z') : z = z' := by
  apply b_ext
  intro i _
  rw [Bool.eq_iff_iff, h i, h' i]
theorem qy_el_0 {s : Nat} {z0 : Int32} (hin : qa_in s z0) : qy_el s 0 z0 z0 := by
  have e0 : ∀ y, qa_df y 0 = y := by
    intro y
    apply Nat.eq_of_testBit_eq
    intro i
    rw [qa_dft, Nat.zero_testBit]
    cases y.testBit i <;> rfl
  intro x
  constructor
  · intro g
    exact ⟨hin x g, x, hin x g, g, rfl⟩
  · intro ⟨_, y, _, g, e⟩
    rw [e0, e0] at e
    rw [e]; exact g
theorem i_vc_eliminate {k : Nat} {u : SX} {v : SY} (I : i_Rel k u v) (hk : k + 5 ≤ 2563) (v1 : Int32) : wpX_eliminate (fun r u' => wpY_eliminate (fun r' v' => r' = r ∧ i_Rel (k + 5) u' v') v v1) u v1 := by
  refine qr_el (P := fun u v => wpX_eliminate (fun r u' => wpY_eliminate (fun r' v' => r' = r ∧ i_Rel (k + 5) u' v') v v1) u v1) ?_ I
  intro n s o q g wk bp bc cp ct sc ec pc ycz ybs yct yrc aW aT aM aR aG aB aL aC aS aE aD aF aO aK aP yG yB yC yA yV yP yI hK hT hG hb hc
  have hz : qa_sz s := by rw [hK.2.2.1]; exact qa_sz_n hK.2.1
  have s32 := hz.2.1
  have ho := hK.2.2.2.1
  have hw := qa_wt_wo ho 0
  have hb0 := hb
  have R := qr_in (k := k + 5) (sc := sc) (ec := ec) (pc := pc) (aR := aR) (aS := aS) (aE := aE) (aD := aD) (aF := aF) (aO := aO) (aK := aK) (yrc := yrc) (yV := yV) (yP := yP) (yI := yI) hK hT hG hb hc
  rcases pk_ix v1 (n := s) (by omega) with h0 | h0 | ⟨m, hm, rfl⟩
  · exact br_t h0 (br_t h0 ⟨rfl, R⟩)
  · have n3 : ¬ v1 < nI s := Int32.not_lt.mpr h0
    have n0 : ¬ v1 < 0 := fun z => Int32.lt_irrefl (Int32.lt_of_le_of_lt h0 (Int32.lt_of_lt_of_le z (nI_pos' (n := s) (by omega))))
    exact br_f n0 (br_f n3 (br_f n0 (br_f n3 ⟨rfl, R⟩)))
  · have p0 : ¬ nI m < 0 := nI_pos (by omega)
    have ps : nI m < nI s := nI_lt hm (by omega)
    rcases hb with e0 | ⟨e1, b, l, h10, e2, e3, hin, hRB, hRL, hL, hB⟩
    · exact br_f p0 (br_t ps (br_t e0 (br_f p0 (br_t ps (br_t e0 ⟨rfl, R⟩)))))
    · have hne : ¬ bp = 0 := by rw [e1]; decide
      subst e2 e3
      have hGB := qa_RB_G hw hz hRB hRL
      refine br_f p0 (br_t ps (br_f hne (pk_eq m 0 (fun em => ?_) (fun nm => ?_))))
      · subst em
        refine br_f p0 (br_t ps (br_f hne (wy_el hw hz (by omega) hT.2.2.2.1 ?_)))
        intro z b' yrc' yB' yV' yP' yI' hzz hRB'
        have ez := qy_el_un hzz (qy_el_0 hin)
        subst ez
        obtain ⟨eb, eB⟩ := qa_RB_un hRB' hRB
        subst eb
        subst e1
        exact ⟨rfl, qr_in hK hT hG (Or.inr ⟨rfl, b', l, h10, rfl, rfl, hin, hRB, hRL, hL, eB⟩) hc⟩
      · obtain ⟨z', hz'⟩ := qy_el_ex s m s32 ycz
        refine ⟨b + 1, wx_el hK.2.1 hK.2.2.1 ho hT.1 hT.2.2.2.2 (by omega) h10 hGB hz' ?_ b 0 (by omega) (b + 1) (by omega) aS (fun i hi => absurd hi (Nat.not_lt_zero i))⟩
        intro b1 l1 sc' ec' pc' aM' aR' aB' aL' aS' aE' aD' aF' aO' aK' aP' h10' hA' hRB1 hRL1 hL1 hP1
        refine br_f p0 (br_t ps (br_f hne (wy_el hw hz (by omega) hT.2.2.2.1 ?_)))
        intro z b' yrc' yB' yV' yP' yI' hzz hRB'
        have ez := qy_el_un hzz hz'
        subst ez
        obtain ⟨eb, eB⟩ := qa_RB_un hRB' hRB1
        subst eb
        subst e1
        exact ⟨rfl, qr_in hK ⟨hT.1, hT.2.1, hA', hT.2.2.2.1, hP1⟩ hG (Or.inr ⟨rfl, b', l1, h10', rfl, rfl, fun t ht => ((hzz t).mp ht).1, hRB1, hRL1, hL1, eB⟩) hc⟩
end
section
/-! ===== certificates ===== -/
/-- zero for the generators before i, one for i -/
def qr_Zi (G : Nat → Int32) (i x : Nat) : Prop := (∀ j, j < i → qa_ev (G j) x = false) ∧ qa_ev (G i) x = true
/-- from the rest r, by the cofactors C i .. C 0, to the rest r' -/
def qr_ch (w : Nat → Nat) (s : Nat) (G C : Nat → Int32) : Nat → Int32 → Int32 → Prop
  | 0, r, r' => r' = r
  | i + 1, r, r' => qa_nf w s (qr_Zi G i) r (C i) ∧ qr_ch w s G C i (r ^^^ qa_pr (C i) (G i)) r'
section
variable {w : Nat → Nat} {s : Nat} {G C D : Nat → Int32}
theorem qr_ch_un : ∀ {i : Nat} {r r' r'' : Int32}, qr_ch w s G C i r r' → qr_ch w s G D i r r'' → r' = r'' ∧ ∀ j, j < i → C j = D j
  | 0, r, r', r'', h, h' => ⟨Eq.trans h (Eq.symm h'), fun j hj => absurd hj (Nat.not_lt_zero j)⟩
  | i + 1, r, r', r'', h, h' => by
    have e := qa_nf_un h.1 h'.1
    have h2 := h.2
    rw [e] at h2
    obtain ⟨e1, e2⟩ := qr_ch_un h2 h'.2
    refine ⟨e1, fun j hj => ?_⟩
    by_cases ej : j = i
    · rw [ej]; exact e
    · exact e2 j (by omega)
theorem qr_ch_in : ∀ {i : Nat} {r r' : Int32}, qr_ch w s G C i r r' → ∀ j, j < i → qa_in s (C j)
  | 0, _, _, _, j, hj => absurd hj (Nat.not_lt_zero j)
  | i + 1, r, r', h, j, hj => by
    by_cases ej : j = i
    · rw [ej]; exact h.1.1
    · exact qr_ch_in h.2 j (by omega)
theorem qr_ch_z (hz : qa_sz s) : ∀ {i : Nat} {r r' : Int32}, (∀ j, j < i → qa_in s (G j)) → qa_in s r → qr_ch w s G C i r r' → ((∀ x, x < s → (∀ j, j < i → qa_ev (G j) x = false) → qa_ev r x = false) ↔ r' = 0)
  | 0, r, r', _, hr, h => by
    have e : r' = r := h
    rw [e]
    constructor
    · intro hv
      exact qa_ev_z hr fun x hx => hv x hx fun j hj => absurd hj (Nat.not_lt_zero j)
    · intro e0 x _ _
      rw [e0]; exact qa_ev_0 x
  | i + 1, r, r', hG, hr, h => by
    have ih := qr_ch_z hz (fun j hj => hG j (by omega)) (qa_in_xor hr (qa_pr_in hz h.1.1 (hG i (by omega)))) h.2
    rw [← ih]
    constructor
    · intro hv x hx hj
      rw [qa_ev_xor, qa_pr_ev]
      cases e1 : qa_ev (G i) x
      · have := hv x hx fun j hj' => by
          by_cases ej : j = i
          · rw [ej]; exact e1
          · exact hj j (by omega)
        rw [this, Bool.and_false]; rfl
      · have h2 := h.1.2.1 x hx ⟨hj, e1⟩
        rw [qa_ev_xor] at h2
        rw [Bool.and_true]; exact h2
    · intro hv x hx hj
      have h2 := hv x hx fun j hj' => hj j (by omega)
      rw [qa_ev_xor, qa_pr_ev, hj i (by omega), Bool.and_false, Bool.xor_false] at h2
      exact h2
end
theorem qr_ev1 (x : Nat) : qa_ev 1 x = true := by
  have e : (1 : Int32) = qa_mo 0 := by decide
  rw [e, qa_ev_mo (by decide)]
  exact qa_dv_t.mpr (qa_sb_0 x)
theorem qr_in1 {s : Nat} (hz : qa_sz s) : qa_in s 1 := by
  have e : (1 : Int32) = qa_mo 0 := by decide
  rw [e]
  exact qa_in_mo hz.2.1 hz.1
section
variable {vc sz od rm wk gc bp bc cp ct sc ec pc : Int32} {aW aT aM aR aG aB aL aC aS aE aD aF aO aK aP : Nat → Int32} {ysz yrm yod ywk ygc ybp ycz ybs ycp yct yrc : Int32} {yG yB yC yA yV yP yI : Nat → Int32} {n s o g : Nat} {w : Nat → Nat}
theorem wx_cq {post : SX → Prop} {i : Nat} (hn : n ≤ 5) (hs : s = 2 ^ n) (hW : qx_W aW) (hw : qa_wo w) {B : Nat} (hB : ∀ a, a < 32 → w a < B) (hA : qa_As w s aM) (hP : ∀ j, aP j = 0 ∨ aP j = 1) (hi : i < 8) (hG : ∀ j, j ≤ i → qa_in s (aG j))
    (H : ∀ (e : Nat) (l : Nat → Nat) (sc : Int32) (aS aE aD aF aO aK aP : Nat → Int32), qx_E w s e aE aD l → qa_G w s e aE l (qr_Zi aG i) → (∀ j, aP j = 0 ∨ aP j = 1) → post (nI n, nI s, od, rm, wk, gc, bp, bc, cp, ct, sc, nI e, nI 0, aW, aT, aM, aR, aG, aB, aL, aC, aS, aE, aD, aF, aO, aK, aP)) : wpX_completeQuotient post (nI n, nI s, od, rm, wk, gc, bp, bc, cp, ct, sc, ec, pc, aW, aT, aM, aR, aG, aB, aL, aC, aS, aE, aD, aF, aO, aK, aP) (nI i) := by
  have hz : qa_sz s := by rw [hs]; exact qa_sz_n hn
  have key : ∀ d j, j + d = i → ∀ f, d < f → ∀ aS : Nat → Int32, (∀ t, t < j → aS t = aG t) → wX_completeQuotient_7 post (nI i) f (nI j) (nI n) (nI s) od rm wk gc bp bc cp ct (nI j) ec pc aW aT aM aR aG aB aL aC aS aE aD aF aO aK aP := by
    intro d
    induction d with
    | zero =>
      intro j hj f hf aS h
      obtain ⟨f, rfl⟩ : ∃ k, f = k + 1 := ⟨f - 1, by omega⟩
      have ej : j = i := by omega
      subst ej
      refine br_t (nI_le (by omega) (by omega)) ⟨vp_in_nI hi (by decide), ?_⟩
      rw [nI_clamp (n := j) (by omega)]
      refine wx_st (by omega) _ ?_
      refine wx_cs (ec := ec) (pc := pc) hn hs hW hw hB hA hP (by omega) (fun t ht => ?_) ?_
      · by_cases et : t = j
        · rw [et, pk_us]; exact qa_in_xor (hG j (Nat.le_refl _)) (qr_in1 hz)
        · rw [pk_un et, h t (by omega)]; exact hG t (by omega)
      · intro e l aE' aD' aF' aO' aK' aP' hE _ hGB hP'
        refine H e l (nI (j + 1)) _ aE' aD' aF' aO' aK' aP' hE (qa_G_cg (fun x hx => ?_) hGB) hP'
        constructor
        · intro y
          refine ⟨fun t ht => ?_, ?_⟩
          · have := y t (by omega)
            rw [pk_un (by omega), h t ht] at this
            exact this
          · have := y j (by omega)
            rw [pk_us, qa_ev_xor, qr_ev1] at this
            revert this
            cases qa_ev (aG j) x <;> simp
        · intro ⟨y1, y2⟩ t ht
          by_cases et : t = j
          · rw [et, pk_us, qa_ev_xor, qr_ev1, y2]; rfl
          · rw [pk_un et, h t (by omega)]; exact y1 t (by omega)
    | succ d ih =>
      intro j hj f hf aS h
      obtain ⟨f, rfl⟩ : ∃ k, f = k + 1 := ⟨f - 1, by omega⟩
      refine br_f (nI_ge (by omega) (by omega)) ⟨vp_in_nI (by omega) (by decide), ?_⟩
      rw [nI_clamp (n := j) (by omega)]
      refine wx_st (by omega) _ (nm_r (nI_1 j) (ih (j + 1) (by omega) f (by omega) _ fun t ht => ?_))
      by_cases et : t = j
      · rw [et, pk_us]
      · rw [pk_un et]; exact h t (by omega)
  exact ⟨i + 1, key i 0 (by omega) (i + 1) (by omega) aS (fun t ht => absurd ht (Nat.not_lt_zero t))⟩
theorem wx_ce {post : Int32 → SX → Prop} (hn : n ≤ 5) (hs : s = 2 ^ n) (hW : qx_W aW) (hw : qa_wo w) {B : Nat} (hB : ∀ a, a < 32 → w a < B) (hA : qa_As w s aM) :
    ∀ i, i ≤ 8 → (∀ j, j < i → qa_in s (aG j)) → ∀ f, i < f → ∀ (r sc ec pc : Int32) (aC aS aE aD aF aO aK aP : Nat → Int32), qa_in s r → (∀ j, aP j = 0 ∨ aP j = 1) →
      (∀ (r' sc ec pc : Int32) (aH aS aE aD aF aO aK aP : Nat → Int32), qr_ch w s aG aH i r r' → (∀ j, i ≤ j → aH j = aC j) → (∀ j, aP j = 0 ∨ aP j = 1) → (r' = 0 → post 1 (nI n, nI s, od, rm, wk, gc, bp, bc, 1, wk, sc, ec, pc, aW, aT, aM, aR, aG, aB, aL, aH, aS, aE, aD, aF, aO, aK, aP)) ∧ (¬ r' = 0 → post 0 (nI n, nI s, od, rm, wk, gc, bp, bc, 0, ct, sc, ec, pc, aW, aT, aM, aR, aG, aB, aL, aH, aS, aE, aD, aF, aO, aK, aP))) →
      wX_certify_22 post f r (nI i + (-1)) (nI n) (nI s) od rm wk gc bp bc cp ct sc ec pc aW aT aM aR aG aB aL aC aS aE aD aF aO aK aP := by
  have hz : qa_sz s := by rw [hs]; exact qa_sz_n hn
  intro i
  induction i with
  | zero =>
    intro _ _ f hf r sc ec pc aC aS aE aD aF aO aK aP hr hP H
    obtain ⟨f, rfl⟩ : ∃ k, f = k + 1 := ⟨f - 1, by omega⟩
    exact br_t (by decide) (H r sc ec pc aC aS aE aD aF aO aK aP rfl (fun _ _ => rfl) hP)
  | succ i ih =>
    intro hi hG f hf r sc ec pc aC aS aE aD aF aO aK aP hr hP H
    obtain ⟨f, rfl⟩ : ∃ k, f = k + 1 := ⟨f - 1, by omega⟩
    have c1 : (nI i).toNatClampNeg = i := nI_clamp (by omega)
    have v8 : vp_in (nI i) 8 := vp_in_nI (by omega) (by decide)
    rw [pk_m1]
    refine br_f (nI_pos (by omega)) (br_c (fun r0 => ⟨v8, nm_r (e' := upd aC i 0) (by rw [c1]) (nm_e ?_)⟩) (fun r0 => ?_))
    · refine ih (by omega) (fun j hj => hG j (by omega)) f (by omega) r sc ec pc _ aS aE aD aF aO aK aP hr hP ?_
      intro r' sc' ec' pc' aH aS' aE' aD' aF' aO' aK' aP' h1 h2 h3
      refine H r' sc' ec' pc' aH aS' aE' aD' aF' aO' aK' aP' ⟨?_, ?_⟩ (fun j hj => ?_) h3
      · rw [h2 i (Nat.le_refl _), pk_us, r0]
        exact qa_nf_0 qa_van_0
      · rw [h2 i (Nat.le_refl _), pk_us, qa_pr_0, qa_x0]
        exact h1
      · rw [h2 j (by omega), pk_un (by omega)]
    · refine wx_cq (sc := sc) (aS := aS) hn hs hW hw hB hA hP (by omega) (fun j hj => hG j (by omega)) ?_
      intro e l sc1 aS1 aE1 aD1 aF1 aO1 aK1 aP1 hE hGB hP1
      obtain ⟨hh, hr1, hwp⟩ := wx_nfG (od := od) (rm := rm) (wk := wk) (gc := gc) (bp := bp) (bc := bc) (cp := cp) (ct := ct) (aW := aW) (aT := aT) (aM := aM) (aR := aR) (aG := aG) (aB := aB) (aL := aL) (aC := aC) (sc := sc1) (pc := nI 0) (aS := aS1) (aF := aF1) (aO := aO1) (aK := aK1) (aP := aP1) hn hs hW hw hB hA hE hGB hr
      refine hwp _ ⟨v8, ?_⟩
      rw [c1]
      refine wx_pr hn hs hW hr1.1 (nm_e ⟨v8, nm_r (e' := upd aC i hh) rfl (nm_e ?_)⟩)
      refine ih (by omega) (fun j hj => hG j (by omega)) f (by omega) _ sc1 (nI e) (nI 0) _ aS1 aE1 aD1 aF1 aO1 aK1 aP1 (qa_in_xor hr (qa_pr_in hz hr1.1 (hG i (by omega)))) hP1 ?_
      intro r' sc' ec' pc' aH aS' aE' aD' aF' aO' aK' aP' h1 h2 h3
      refine H r' sc' ec' pc' aH aS' aE' aD' aF' aO' aK' aP' ⟨?_, ?_⟩ (fun j hj => ?_) h3
      · rw [h2 i (Nat.le_refl _), pk_us]
        exact hr1
      · rw [h2 i (Nat.le_refl _), pk_us]
        exact h1
      · rw [h2 j (by omega), pk_un (by omega)]
theorem wy_ce {post : Int32 → SY → Prop} (hw : qa_wo w) (hz : qa_sz s) (hA : qa_As w s yA) :
    ∀ i, i ≤ 8 → (∀ j, j < i → qa_in s (yG j)) → ∀ f, i < f → ∀ (r yrc : Int32) (yC yV yP yI : Nat → Int32), qa_in s r →
      (∀ (r' yrc : Int32) (yH yV yP yI : Nat → Int32), qr_ch w s yG yH i r r' → (∀ j, i ≤ j → yH j = yC j) → post 1 (nI s, yrm, yod, ywk, ygc, ybp, ycz, ybs, 1, ywk, yrc, yG, yB, yH, yA, yV, yP, yI)) →
      wY_certify_54 post f r (nI i + (-1)) (nI s) yrm yod ywk ygc ybp ycz ybs ycp yct yrc yG yB yC yA yV yP yI := by
  have s32 := hz.2.1
  intro i
  induction i with
  | zero =>
    intro _ _ f hf r yrc yC yV yP yI hr H
    obtain ⟨f, rfl⟩ : ∃ k, f = k + 1 := ⟨f - 1, by omega⟩
    exact br_t (by decide) (H r yrc yC yV yP yI rfl (fun _ _ => rfl))
  | succ i ih =>
    intro hi hG f hf r yrc yC yV yP yI hr H
    obtain ⟨f, rfl⟩ : ∃ k, f = k + 1 := ⟨f - 1, by omega⟩
    have c1 : (nI i).toNatClampNeg = i := nI_clamp (by omega)
    have v8 : vp_in (nI i) 8 := vp_in_nI (by omega) (by decide)
    rw [pk_m1]
    refine br_f (nI_pos (by omega)) (wy_cz s32 (by omega) (fun j hj => hG j (by omega)) ⟨v8, ?_⟩)
    rw [c1]
    refine wy_vl s32 (hG i (by omega)) (wy_nf hw s32 hA hr ?_)
    intro hh yrc1 yV1 yP1 yI1 hn1
    have hn2 : qa_nf w s (qr_Zi yG i) r hh := qa_nf_cg (fun x hx => by
      show bt (qy_cz s yG i &&& qy_vl s (yG i)) x = true ↔ _
      rw [b_and, Bool.and_eq_true, qy_cz_bt s32, qy_vl_bt s32, decide_eq_true hx, Bool.true_and]
      constructor
      · intro y; exact ⟨y.1.2, y.2⟩
      · intro y; exact ⟨⟨hx, y.1⟩, y.2⟩) hn1
    refine ⟨v8, ?_⟩
    refine wy_pr s32 hn2.1 (hG i (by omega)) ⟨v8, nm_e (nm_e (nm_e ?_))⟩
    refine ih (by omega) (fun j hj => hG j (by omega)) f (by omega) _ yrc1 _ yV1 yP1 yI1 (qa_in_xor hr (qa_pr_in hz hn2.1 (hG i (by omega)))) ?_
    intro r' yrc' yH yV' yP' yI' h1 h2
    refine H r' yrc' yH yV' yP' yI' ⟨?_, ?_⟩ (fun j hj => ?_)
    · rw [h2 i (Nat.le_refl _), pk_us]
      exact hn2
    · rw [h2 i (Nat.le_refl _), pk_us]
      exact h1
    · rw [h2 j (by omega), pk_un (by omega)]
end
theorem i_vc_certify {k : Nat} {u : SX} {v : SY} (I : i_Rel k u v) (hk : k + 5 ≤ 2563) : wpX_certify (fun r u' => wpY_certify (fun r' v' => r' = r ∧ i_Rel (k + 5) u' v') v) u := by
  refine qr_el (P := fun u v => wpX_certify (fun r u' => wpY_certify (fun r' v' => r' = r ∧ i_Rel (k + 5) u' v') v) u) ?_ I
  intro n s o q g wk bp bc cp ct sc ec pc ycz ybs yct yrc aW aT aM aR aG aB aL aC aS aE aD aF aO aK aP yG yB yC yA yV yP yI hK hT hG hb hc
  obtain ⟨k1, k2, k3, k4, k5, k6, k7⟩ := hK
  have hz : qa_sz s := by rw [k3]; exact qa_sz_n k2
  have s32 := hz.2.1
  have hw := qa_wt_wo k4 0
  have hb0 := hb
  rcases hb with e0 | ⟨e1, _⟩
  · exact br_t e0 (br_t e0 ⟨rfl, qr_in ⟨k1, k2, k3, k4, k5, k6, k7⟩ hT hG hb0 hc⟩)
  · have hne : ¬ bp = 0 := by rw [e1]; decide
    have hXG : ∀ i, i < g → qa_in s (aG i) := fun i hi => (hG.2 i hi).2
    have hYG : ∀ i, i < g → qa_in s (yG i) := fun i hi => by rw [(hG.2 i hi).1]; exact (hG.2 i hi).2
    have hZZ : ∀ p, qy_ms s (qy_cz s yG g) p = 0 ↔ ∀ x, x < s → (∀ j, j < g → qa_ev (aG j) x = false) → qa_ev p x = false := by
      intro p
      rw [← qy_van s32]
      constructor
      · intro y x hx hj
        refine y x hx ?_
        show bt (qy_cz s yG g) x = true
        rw [qy_cz_bt s32]
        exact ⟨hx, fun j hj' => by rw [(hG.2 j hj').1]; exact hj j hj'⟩
      · intro y x hx hzx
        have hzx' : bt (qy_cz s yG g) x = true := hzx
        rw [qy_cz_bt s32] at hzx'
        exact y x hx fun j hj' => by rw [← (hG.2 j hj').1]; exact hzx'.2 j hj'
    refine br_f hne (nm_r (e' := nI g + (-1)) (Int32.sub_eq_add_neg _ _) ⟨g + 1, wx_ce k2 k3 hT.1 hw (qr_B k4) hT.2.2.1 g (by omega) hXG (g + 1) (by omega) wk sc ec pc aC aS aE aD aF aO aK aP hG.1 hT.2.2.2.2 ?_⟩)
    intro r' sc' ec' pc' aH aS' aE' aD' aF' aO' aK' aP' h1 _ hP'
    have hrz := qr_ch_z hz hXG hG.1 h1
    have hT' : qr_T s o aW aT aM aP' yA := ⟨hT.1, hT.2.1, hT.2.2.1, hT.2.2.2.1, hP'⟩
    refine ⟨fun r0 => ?_, fun r0 => ?_⟩
    · have hv := (hZZ wk).mpr (hrz.mpr r0)
      refine br_f hne (wy_cz s32 (by omega) hYG (wy_vl s32 hG.1 (br_t hv (nm_r (e' := nI g + (-1)) (Int32.sub_eq_add_neg _ _) ⟨g + 1, wy_ce hw hz hT.2.2.2.1 g (by omega) hYG (g + 1) (by omega) wk yrc yC yV yP yI hG.1 ?_⟩))))
      intro r'' yrc' yH yV' yP' yI' h2 _
      have h2' : qr_ch (qa_wt o 0) s aG yH g wk r'' := by
        have cg : ∀ (i : Nat), i ≤ g → ∀ a b, qr_ch (qa_wt o 0) s yG yH i a b → qr_ch (qa_wt o 0) s aG yH i a b := by
          intro i
          induction i with
          | zero => exact fun _ a b h => h
          | succ i ih =>
            intro hi a b h
            have eg := (hG.2 i (by omega)).1
            refine ⟨qa_nf_cg (fun x _ => ?_) h.1, ?_⟩
            · constructor
              · intro y
                exact ⟨fun j hj => by rw [← (hG.2 j (by omega)).1]; exact y.1 j hj, by rw [← eg]; exact y.2⟩
              · intro y
                exact ⟨fun j hj => by rw [(hG.2 j (by omega)).1]; exact y.1 j hj, by rw [eg]; exact y.2⟩
            · have h3 := ih (by omega) _ _ h.2
              rw [eg] at h3
              exact h3
        exact cg g (Nat.le_refl _) _ _ h2
      obtain ⟨_, eC⟩ := qr_ch_un h1 h2'
      exact ⟨rfl, qr_in ⟨k1, k2, k3, k4, k5, k6, k7⟩ hT' hG hb0 (Or.inr ⟨rfl, rfl, hG.1, fun i hi => ⟨(eC i hi).symm, qr_ch_in h1 i hi⟩⟩)⟩
    · have hv : ¬ qy_ms s (qy_cz s yG g) wk = 0 := fun y => r0 (hrz.mp ((hZZ wk).mp y))
      exact br_f hne (wy_cz s32 (by omega) hYG (wy_vl s32 hG.1 (br_f hv ⟨rfl, qr_in ⟨k1, k2, k3, k4, k5, k6, k7⟩ hT' hG hb0 (Or.inl rfl)⟩)))
end
