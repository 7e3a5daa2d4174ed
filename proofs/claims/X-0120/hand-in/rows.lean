section
/-! pure rows to paste: stores, nI and lN arithmetic, masks, shifts, narrowing, branches by naturals (pk_le, pk_lt, pk_eq), loops (lp1 .. lp16: the measure of the state; rp1 ..: recursion), negatives. Take what you need -/
theorem pk_us {f : Nat → Int32} {k : Nat} {x : Int32} : upd f k x k = x := if_pos rfl
theorem pk_un {f : Nat → Int32} {k j : Nat} {x : Int32} (h : j ≠ k) : upd f k x j = f j := if_neg h
theorem pk_uLs {f : Nat → Int64} {k : Nat} {x : Int64} : vp_updL f k x k = x := if_pos rfl
theorem pk_uLn {f : Nat → Int64} {k j : Nat} {x : Int64} (h : j ≠ k) : vp_updL f k x j = f j := if_neg h
theorem pk_sub {a b : Nat} (h : b ≤ a) : nI a - nI b = nI (a - b) := by
  obtain ⟨c, rfl⟩ : ∃ c, a = c + b := ⟨a - b, by omega⟩
  rw [← nI_add, Int32.add_sub_cancel, Nat.add_sub_cancel]
theorem pk_m1 (n : Nat) : nI (n + 1) + (-1) = nI n := by
  rw [← nI_1, Int32.add_assoc, show (1 : Int32) + (-1) = 0 from rfl, Int32.add_zero]
theorem pk_mul (a b : Nat) : nI a * nI b = nI (a * b) := (Int32.ofNat_mul a b).symm
theorem pk_div {a d : Nat} (ha : a < 2 ^ 31) (h0 : 0 < d) (hd : d < 2 ^ 31) : nI a / nI d = nI (a / d) := by
  apply Int32.toInt_inj.mp
  rw [lg_idiv_nonneg (by rw [nI_toInt ha]; omega) (by rw [nI_toInt hd]; omega), nI_toInt ha, nI_toInt hd, nI_toInt (Nat.lt_of_le_of_lt (Nat.div_le_self a d) ha)]
  first | rfl | exact (Int.natCast_ediv _ _).symm
theorem pk_rem {a d : Nat} (ha : a < 2 ^ 31) (h0 : 0 < d) (hd : d < 2 ^ 31) : nI a - nI a / nI d * nI d = nI (a % d) := by
  rw [pk_div ha h0 hd, pk_mul, pk_sub (Nat.div_mul_le_self a d)]
  exact congrArg nI (by have := Nat.div_add_mod' a d; omega)
theorem pk_sub_toInt {a b : Nat} (ha : a < 2 ^ 30) (hb : b < 2 ^ 30) : (nI a - nI b).toInt = (a : Int) - b := by
  rw [Int32.toInt_sub, nI_toInt (by omega), nI_toInt (by omega)]
  exact Int.bmod_eq_of_le (by omega) (by omega)
theorem pk_sneg {a b : Nat} (hb : b < 2 ^ 30) (h : a < b) : nI a - nI b < 0 := by
  rw [Int32.lt_iff_toInt_lt, pk_sub_toInt (by omega) hb, show (0 : Int32).toInt = 0 from by decide]
  omega
theorem pk_ix (x : Int32) {n : Nat} (hn : n < 2 ^ 31) : x < 0 ∨ nI n ≤ x ∨ ∃ j : Nat, j < n ∧ x = nI j := by
  by_cases h : x < 0
  · exact Or.inl h
  · obtain ⟨j, hj, rfl⟩ := nI_of h
    by_cases h2 : j < n
    · exact Or.inr (Or.inr ⟨j, h2, rfl⟩)
    · exact Or.inr (Or.inl (nI_le (by omega) hj))
theorem pk_le {x y : Int32} {A B : Prop} (a b : Nat) (f : a ≤ b → A) (g : b < a → B) (hx : x = nI a := by rfl) (hy : y = nI b := by rfl) (ha : a < 2 ^ 31 := by omega) (hb : b < 2 ^ 31 := by omega) : (x ≤ y → A) ∧ (¬ x ≤ y → B) := by
  subst hx hy
  rw [nI_leI ha hb]
  exact ⟨f, fun z => g (by omega)⟩
theorem pk_lt {x y : Int32} {A B : Prop} (a b : Nat) (f : a < b → A) (g : b ≤ a → B) (hx : x = nI a := by rfl) (hy : y = nI b := by rfl) (ha : a < 2 ^ 31 := by omega) (hb : b < 2 ^ 31 := by omega) : (x < y → A) ∧ (¬ x < y → B) := by
  subst hx hy
  rw [nI_ltI ha hb]
  exact ⟨f, fun z => g (by omega)⟩
theorem pk_eq {x y : Int32} {A B : Prop} (a b : Nat) (f : a = b → A) (g : a ≠ b → B) (hx : x = nI a := by rfl) (hy : y = nI b := by rfl) (ha : a < 2 ^ 31 := by omega) (hb : b < 2 ^ 31 := by omega) : (x = y → A) ∧ (¬ x = y → B) := by
  subst hx hy
  rw [nI_eq ha hb]
  exact ⟨f, g⟩
theorem pk_in {x : Int32} (n N : Nat) (h : n < N) (hx : x = nI n := by rfl) (hN : N < 2 ^ 31 := by omega) : vp_in x N := by
  subst hx
  exact vp_in_nI h hN
theorem pk_cl {x : Int32} (n : Nat) (hx : x = nI n := by rfl) (h : n < 2 ^ 31 := by omega) : x.toNatClampNeg = n := by
  subst hx
  exact nI_clamp h
theorem pk_tn {n : Nat} (h : n < 2 ^ 32) : (nI n).toBitVec.toNat = n := Nat.mod_eq_of_lt h
theorem pk_and (x : Int32) {m : Int32} (k : Nat) (hm : m.toBitVec.toNat = 2 ^ k - 1) : x &&& m = nI (x.toBitVec.toNat % 2 ^ k) := by
  apply Int32.toBitVec_inj.mp
  apply BitVec.eq_of_toNat_eq
  rw [Int32.toBitVec_and, BitVec.toNat_and, hm, Nat.and_two_pow_sub_one_eq_mod]
  show _ = (BitVec.ofNat 32 _).toNat
  rw [BitVec.toNat_ofNat]
  exact (Nat.mod_eq_of_lt (Nat.lt_of_le_of_lt (Nat.mod_le _ _) x.toBitVec.isLt)).symm
theorem pk_andN {n : Nat} (h : n < 2 ^ 32) {m : Int32} (k : Nat) (hm : m.toBitVec.toNat = 2 ^ k - 1) : nI n &&& m = nI (n % 2 ^ k) := by
  rw [pk_and _ k hm, pk_tn h]
theorem pk_andE (x : Int32) {m : Int32} (k : Nat) (hm : m.toBitVec.toNat = 2 ^ k - 1) : ∃ j : Nat, j < 2 ^ k ∧ x &&& m = nI j := ⟨_, Nat.mod_lt _ (Nat.two_pow_pos k), pk_and x k hm⟩
theorem pk_andIn (x : Int32) {m : Int32} (k : Nat) (hm : m.toBitVec.toNat = 2 ^ k - 1) (hk : k ≤ 30) : vp_in (x &&& m) (2 ^ k) := by
  obtain ⟨j, hj, e⟩ := pk_andE x k hm
  rw [e]
  exact vp_in_nI hj (Nat.lt_of_le_of_lt (Nat.pow_le_pow_right (by decide) hk) (by decide))
theorem pk_shl (a s : Int32) (k : Nat) (hs : (s.toBitVec.smod 32).toNat = k) : (a <<< s).toBitVec.toNat = a.toBitVec.toNat * 2 ^ k % 2 ^ 32 := by
  show (a.toBitVec <<< (s.toBitVec.smod 32).toNat).toNat = _
  rw [hs, BitVec.toNat_shiftLeft, Nat.shiftLeft_eq]
theorem pk_shlN {n : Nat} (s : Int32) (k : Nat) (hs : (s.toBitVec.smod 32).toNat = k) (h : n * 2 ^ k < 2 ^ 32) : nI n <<< s = nI (n * 2 ^ k) := by
  apply Int32.toBitVec_inj.mp
  apply BitVec.eq_of_toNat_eq
  have hn : n < 2 ^ 32 := Nat.lt_of_le_of_lt (Nat.le_mul_of_pos_right n (Nat.two_pow_pos k)) h
  rw [pk_shl _ _ k hs, pk_tn hn, pk_tn h, Nat.mod_eq_of_lt h]
theorem pk_shr (a s : Int32) (k : Nat) (hs : (s.toBitVec.smod 32).toNat = k) : (a >>> s).toInt = a.toInt >>> k := by
  show (a.toBitVec.sshiftRight (s.toBitVec.smod 32).toNat).toInt = _
  rw [hs, BitVec.toInt_sshiftRight]
  rfl
theorem pk_shrN {n : Nat} (h : n < 2 ^ 31) (s : Int32) (k : Nat) (hs : (s.toBitVec.smod 32).toNat = k) : nI n >>> s = nI (n / 2 ^ k) := by
  apply Int32.toInt_inj.mp
  have h2 : n / 2 ^ k ≤ n := Nat.div_le_self _ _
  rw [pk_shr _ _ k hs, nI_toInt h, nI_toInt (by omega), Int.shiftRight_eq_div_pow]
  rfl
theorem pk_ushr (x s : Int32) (k : Nat) (hs : ((s.toUInt32 &&& Int32.toUInt32 31).toBitVec % 32).toNat = k) : (x.toUInt32 >>> (s.toUInt32 &&& Int32.toUInt32 31)).toInt32.toBitVec.toNat = x.toBitVec.toNat / 2 ^ k := by
  have e : (x.toUInt32 >>> (s.toUInt32 &&& Int32.toUInt32 31)).toInt32.toBitVec = x.toBitVec >>> k := by
    rw [← hs]
    exact UInt32.toBitVec_shiftRight _ _
  rw [e, BitVec.toNat_ushiftRight, Nat.shiftRight_eq_div_pow]
theorem pk_ushrN {n : Nat} (hn : n < 2 ^ 32) (s : Int32) (k : Nat) (hs : ((s.toUInt32 &&& Int32.toUInt32 31).toBitVec % 32).toNat = k) : ((nI n).toUInt32 >>> (s.toUInt32 &&& Int32.toUInt32 31)).toInt32 = nI (n / 2 ^ k) := by
  apply Int32.toBitVec_inj.mp
  apply BitVec.eq_of_toNat_eq
  rw [pk_ushr _ s k hs, pk_tn hn, pk_tn (Nat.lt_of_le_of_lt (Nat.div_le_self _ _) hn)]
/-! ===== Int32 by its bits: bt x i ===== -/
def bt (x : Int32) (i : Nat) : Bool := x.toBitVec.getLsbD i
theorem b_ext {x y : Int32} (h : ∀ i, i < 32 → bt x i = bt y i) : x = y := Int32.toBitVec_inj.mp (BitVec.eq_of_getLsbD_eq (fun i hi => h i hi))
theorem b_or (x y : Int32) (i : Nat) : bt (x ||| y) i = (bt x i || bt y i) := by unfold bt; rw [Int32.toBitVec_or, BitVec.getLsbD_or]
theorem b_and (x y : Int32) (i : Nat) : bt (x &&& y) i = (bt x i && bt y i) := by unfold bt; rw [Int32.toBitVec_and, BitVec.getLsbD_and]
theorem b_xor (x y : Int32) (i : Nat) : bt (x ^^^ y) i = (bt x i ^^ bt y i) := by unfold bt; rw [Int32.toBitVec_xor, BitVec.getLsbD_xor]
theorem b_big {x : Int32} {i : Nat} (h : 32 ≤ i) : bt x i = false := BitVec.getLsbD_of_ge _ _ h
theorem b_255 (i : Nat) : bt 255 i = decide (i < 8) := by
  rcases Nat.lt_or_ge i 32 with h | h
  · exact (by decide +kernel : ∀ i, i < 32 → bt 255 i = decide (i < 8)) i h
  · rw [b_big h, decide_eq_false (by omega)]
theorem b_65535 (i : Nat) : bt 65535 i = decide (i < 16) := by
  rcases Nat.lt_or_ge i 32 with h | h
  · exact (by decide +kernel : ∀ i, i < 32 → bt 65535 i = decide (i < 16)) i h
  · rw [b_big h, decide_eq_false (by omega)]
theorem b_m1 : ∀ i, i < 32 → bt (-1) i = true := by decide +kernel
theorem b_0 (i : Nat) : bt 0 i = false := BitVec.getLsbD_zero
theorem s_l : ∀ n, n < 32 → ((nI n &&& 31).toBitVec.smod 32).toNat = n := by decide +kernel
theorem s_u : ∀ n, n < 32 → (((nI n).toUInt32 &&& Int32.toUInt32 31).toBitVec % 32).toNat = n := by decide +kernel
theorem b_shl (n : Nat) (hn : n < 32) (x : Int32) {i : Nat} (hi : i < 32) : bt (x <<< (nI n &&& 31)) i = (decide (n ≤ i) && bt x (i - n)) := by
  unfold bt
  rw [Int32.toBitVec_shiftLeft]
  show (x.toBitVec <<< ((nI n &&& 31).toBitVec.smod 32).toNat).getLsbD i = _
  rw [s_l n hn, BitVec.getLsbD_shiftLeft]
  rcases Nat.lt_or_ge i n with h | h
  · simp [h, Nat.not_le.mpr h]
  · simp [hi, h, Nat.not_lt.mpr h]
theorem b_ushr (n : Nat) (hn : n < 32) (x : Int32) (i : Nat) : bt ((x.toUInt32 >>> ((nI n).toUInt32 &&& Int32.toUInt32 31)).toInt32) i = bt x (n + i) := by
  show (x.toUInt32 >>> ((nI n).toUInt32 &&& Int32.toUInt32 31)).toBitVec.getLsbD i = x.toUInt32.toBitVec.getLsbD (n + i)
  rw [UInt32.toBitVec_shiftRight]
  show (x.toUInt32.toBitVec >>> (((nI n).toUInt32 &&& Int32.toUInt32 31).toBitVec % 32).toNat).getLsbD i = _
  rw [s_u n hn, BitVec.getLsbD_ushiftRight]
theorem b_sshr (n : Nat) (hn : n < 32) (x : Int32) {i : Nat} (hi : i < 32) : bt (x >>> (nI n &&& 31)) i = if n + i < 32 then bt x (n + i) else bt x 31 := by
  unfold bt
  rw [Int32.toBitVec_shiftRight]
  show (x.toBitVec.sshiftRight ((nI n &&& 31).toBitVec.smod 32).toNat).getLsbD i = _
  rw [s_l n hn, BitVec.getLsbD_sshiftRight, BitVec.msb_eq_getLsbD_last]
  simp [hi]
theorem b_shl8 (x : Int32) {i : Nat} (hi : i < 32) : bt (x <<< ((8 : Int32) &&& 31)) i = (decide (8 ≤ i) && bt x (i - 8)) := b_shl 8 (by omega) x hi
theorem b_shl16 (x : Int32) {i : Nat} (hi : i < 32) : bt (x <<< ((16 : Int32) &&& 31)) i = (decide (16 ≤ i) && bt x (i - 16)) := b_shl 16 (by omega) x hi
theorem b_shl24 (x : Int32) {i : Nat} (hi : i < 32) : bt (x <<< ((24 : Int32) &&& 31)) i = (decide (24 ≤ i) && bt x (i - 24)) := b_shl 24 (by omega) x hi
theorem b_sshr8 (x : Int32) {i : Nat} (hi : i < 32) : bt (x >>> ((8 : Int32) &&& 31)) i = if 8 + i < 32 then bt x (8 + i) else bt x 31 := b_sshr 8 (by omega) x hi
/-! ===== nI under and, xor, >>>, one bit, 65535 ===== -/
theorem nx_and (a b : Nat) : nI a &&& nI b = nI (a &&& b) := by
  apply Int32.toBitVec_inj.1
  show BitVec.ofNat 32 a &&& BitVec.ofNat 32 b = BitVec.ofNat 32 (a &&& b)
  apply BitVec.eq_of_getLsbD_eq
  intro i hi
  simp [hi]
theorem nx_xor (a b : Nat) : nI a ^^^ nI b = nI (a ^^^ b) := by
  apply Int32.toBitVec_inj.1
  show BitVec.ofNat 32 a ^^^ BitVec.ofNat 32 b = BitVec.ofNat 32 (a ^^^ b)
  apply BitVec.eq_of_getLsbD_eq
  intro i hi
  simp [hi]
theorem nx_cnt : ∀ j : Fin 32, (UInt32.ofNat j.val &&& Int32.toUInt32 31).toNat % 32 = j.val := by decide +kernel
theorem nx_ush {k j : Nat} (hk : k < 65536) (hj : j < 32) : ((nI k).toUInt32 >>> ((nI j).toUInt32 &&& Int32.toUInt32 31)).toInt32 = nI (k >>> j) := by
  have hs : k >>> j ≤ k := by
    rw [Nat.shiftRight_eq_div_pow]
    exact Nat.div_le_self _ _
  have e2 : UInt32.ofNat k >>> (UInt32.ofNat j &&& Int32.toUInt32 31) = UInt32.ofNat (k >>> j) := by
    apply UInt32.toNat_inj.1
    have h1 : (UInt32.ofNat k).toNat = k := Nat.mod_eq_of_lt (by omega)
    have h2 : (UInt32.ofNat (k >>> j)).toNat = k >>> j := Nat.mod_eq_of_lt (by omega)
    rw [UInt32.toNat_shiftRight, nx_cnt ⟨j, hj⟩, h1, h2]
  show (UInt32.ofNat k >>> (UInt32.ofNat j &&& Int32.toUInt32 31)).toInt32 = _
  rw [e2]
  rfl
theorem nx_bit {k j : Nat} (hk : k < 65536) (hj : j < 16) : (((nI k).toUInt32 >>> ((nI j).toUInt32 &&& Int32.toUInt32 31)).toInt32 &&& 1) = 0 ↔ k.testBit j = false := by
  rw [nx_ush hk (by omega)]
  show nI (k >>> j) &&& nI 1 = 0 ↔ _
  rw [nx_and, Nat.and_one_is_mod, ← nI_0, nI_eq (by omega) (by omega), Nat.testBit_eq_decide_div_mod_eq, Nat.shiftRight_eq_div_pow, decide_eq_false_iff_not]
  generalize k / 2 ^ j = z
  omega
theorem nx_mod (k : Nat) : nI k &&& 65535 = nI (k % 65536) := by
  show nI k &&& nI 65535 = _
  rw [nx_and, show (65535 : Nat) = 2 ^ 16 - 1 from rfl, Nat.and_two_pow_sub_one_eq_mod]
theorem nx_m16 {k : Nat} (h : k < 65536) : nI k &&& 65535 = nI k := by rw [nx_mod, Nat.mod_eq_of_lt h]
theorem nx_mask (x : Int32) : ∃ k, k < 65536 ∧ x &&& 65535 = nI k := by
  have e : x = nI x.toBitVec.toNat := by
    apply Int32.toBitVec_inj.1
    show x.toBitVec = BitVec.ofNat 32 x.toBitVec.toNat
    simp
  refine ⟨x.toBitVec.toNat % 65536, Nat.mod_lt _ (by omega), ?_⟩
  rw [← nx_mod, ← e]
end
section
/-! ===== bytes of a word, and the memory as bytes ===== -/
def dm_by (w : Int32) (j : Nat) : Nat := w.toBitVec.toNat / 2 ^ (8 * j) % 256
theorem dm_by_lt (w : Int32) (j : Nat) : dm_by w j < 256 := Nat.mod_lt _ (by decide)
theorem dm_bt_tb (w : Int32) (i : Nat) : bt w i = w.toBitVec.toNat.testBit i := rfl
theorem dm_by_tb (w : Int32) (j b : Nat) : (dm_by w j).testBit b = (decide (b < 8) && bt w (8 * j + b)) := by
  unfold dm_by
  rw [show (256 : Nat) = 2 ^ 8 from rfl, Nat.testBit_mod_two_pow, Nat.testBit_div_two_pow, dm_bt_tb]
  first | rfl | (rw [Nat.add_comm b (8 * j)])
theorem dm_by_cg {w v : Int32} {j i : Nat} (h : ∀ b, b < 8 → bt w (8 * j + b) = bt v (8 * i + b)) : dm_by w j = dm_by v i := by
  apply Nat.eq_of_testBit_eq
  intro b
  rw [dm_by_tb, dm_by_tb]
  by_cases hb : b < 8
  · rw [h b hb]
  · rw [decide_eq_false hb]; rfl
theorem dm_by_z {w : Int32} {j : Nat} (h : ∀ b, b < 8 → bt w (8 * j + b) = false) : dm_by w j = 0 := by
  apply Nat.eq_of_testBit_eq
  intro b
  rw [dm_by_tb, Nat.zero_testBit]
  by_cases hb : b < 8
  · rw [h b hb, Bool.and_false]
  · rw [decide_eq_false hb]; rfl
theorem dm_bt_by {w : Int32} {i : Nat} : bt w i = (dm_by w (i / 8)).testBit (i % 8) := by
  rw [dm_by_tb, decide_eq_true (Nat.mod_lt i (by decide)), Bool.true_and, Nat.div_add_mod]
theorem dm_by_ext {w v : Int32} (h : ∀ j, j < 4 → dm_by w j = dm_by v j) : w = v := by
  apply b_ext
  intro i hi
  rw [dm_bt_by, dm_bt_by, h (i / 8) (by omega)]
theorem dm_by_hi {w : Int32} {j : Nat} (h : 4 ≤ j) : dm_by w j = 0 := dm_by_z (fun b _ => b_big (by omega))
theorem dm_by_or (w v : Int32) (j : Nat) : dm_by (w ||| v) j = dm_by w j ||| dm_by v j := by
  apply Nat.eq_of_testBit_eq
  intro b
  rw [Nat.testBit_or, dm_by_tb, dm_by_tb, dm_by_tb, b_or]
  cases decide (b < 8) <;> rfl
theorem dm_by_mg {w v m : Int32} {j : Nat} {e : Bool} (hj : j < 4) (h : ∀ b, b < 8 → bt m (8 * j + b) = e) :
    dm_by ((w &&& (m ^^^ (-1))) ||| (v &&& m)) j = if e = true then dm_by v j else dm_by w j := by
  cases e with
  | true =>
    rw [if_pos rfl]
    apply dm_by_cg
    intro b hb
    rw [b_or, b_and, b_and, b_xor, h b hb, b_m1 _ (by omega)]
    cases bt w (8 * j + b) <;> cases bt v (8 * j + b) <;> rfl
  | false =>
    rw [if_neg (by decide)]
    apply dm_by_cg
    intro b hb
    rw [b_or, b_and, b_and, b_xor, h b hb, b_m1 _ (by omega)]
    cases bt w (8 * j + b) <;> cases bt v (8 * j + b) <;> rfl
theorem dm_by_shl (v : Int32) {s j : Nat} (hs : s < 4) (hj : j < 4) : dm_by (v <<< (nI (8 * s) &&& 31)) j = if s ≤ j then dm_by v (j - s) else 0 := by
  by_cases h : s ≤ j
  · rw [if_pos h]
    apply dm_by_cg
    intro b hb
    rw [b_shl (8 * s) (by omega) v (by omega), decide_eq_true (by omega), Bool.true_and]
    exact congrArg (bt v) (by omega)
  · rw [if_neg h]
    apply dm_by_z
    intro b hb
    rw [b_shl (8 * s) (by omega) v (by omega), decide_eq_false (by omega), Bool.false_and]
theorem dm_by_shr (v : Int32) {s : Nat} (j : Nat) (hs : s < 4) : dm_by ((v.toUInt32 >>> ((nI (8 * s)).toUInt32 &&& Int32.toUInt32 31)).toInt32) j = if s + j < 4 then dm_by v (s + j) else 0 := by
  by_cases h : s + j < 4
  · rw [if_pos h]
    apply dm_by_cg
    intro b hb
    rw [b_ushr (8 * s) (by omega) v]
    exact congrArg (bt v) (by omega)
  · rw [if_neg h]
    apply dm_by_z
    intro b hb
    rw [b_ushr (8 * s) (by omega) v, b_big (by omega)]
theorem dm_m255 : ∀ s, s < 4 → ∀ j, j < 4 → ∀ b, b < 8 → bt ((255 : Int32) <<< (nI (8 * s) &&& 31)) (8 * j + b) = decide (j = s) := by decide +kernel
theorem dm_mshl : ∀ s, s < 4 → ∀ j, j < 4 → ∀ b, b < 8 → bt ((-1 : Int32) <<< (nI (8 * s) &&& 31)) (8 * j + b) = decide (s ≤ j) := by decide +kernel
theorem dm_mshr : ∀ s, s < 4 → 0 < s → ∀ j, j < 4 → ∀ b, b < 8 → bt (((-1 : Int32).toUInt32 >>> ((32 - nI (8 * s)).toUInt32 &&& Int32.toUInt32 31)).toInt32) (8 * j + b) = decide (j < s) := by decide +kernel
theorem dm_mlan : ∀ lo, lo < 4 → ∀ hi, hi < 5 → 0 < hi → ∀ j, j < 4 → ∀ b, b < 8 → bt (((-1 : Int32) <<< ((8 * nI lo) &&& 31)) &&& (((-1 : Int32).toUInt32 >>> ((32 - (8 * nI hi)).toUInt32 &&& Int32.toUInt32 31)).toInt32)) (8 * j + b) = decide (lo ≤ j ∧ j < hi) := by decide +kernel
theorem dm_32 : ∀ s, s < 4 → 0 < s → (32 : Int32) - nI (8 * s) = nI (8 * (4 - s)) := by decide +kernel
/-- the word that begins s bytes into the pair lo, hi -/
def dm_re (lo hi : Int32) (s : Nat) : Int32 := if s = 0 then lo else ((lo.toUInt32 >>> ((nI (8 * s)).toUInt32 &&& Int32.toUInt32 31)).toInt32) ||| (hi <<< ((32 - nI (8 * s)) &&& 31))
theorem dm_by_re (lo hi : Int32) {s j : Nat} (hs : s < 4) (hj : j < 4) : dm_by (dm_re lo hi s) j = if s + j < 4 then dm_by lo (s + j) else dm_by hi (s + j - 4) := by
  unfold dm_re
  by_cases h0 : s = 0
  · subst h0
    rw [if_pos rfl, if_pos (by omega), Nat.zero_add]
  · rw [if_neg h0, dm_by_or, dm_by_shr lo j hs, dm_32 s hs (by omega), dm_by_shl hi (by omega) hj]
    by_cases h : s + j < 4
    · rw [if_pos h, if_pos h, if_neg (by omega), Nat.or_zero]
    · rw [if_neg h, if_neg h, if_pos (by omega), Nat.zero_or]
      exact congrArg (dm_by hi) (by omega)
/-! numbers under masks -/
theorem dm_tn (n : Nat) : (nI n).toBitVec.toNat = n % 4294967296 := rfl
theorem dm_a255 (n : Nat) : nI n &&& 255 = nI (n % 256) := by
  rw [pk_and _ 8 (by decide), dm_tn]
  exact congrArg nI (by omega)
theorem dm_a3 (n : Nat) : nI n &&& 3 = nI (n % 4) := by
  rw [pk_and _ 2 (by decide), dm_tn]
  exact congrArg nI (by omega)
theorem dm_a63 (n : Nat) : nI n &&& 63 = nI (n % 64) := by
  rw [pk_and _ 6 (by decide), dm_tn]
  exact congrArg nI (by omega)
theorem dm_a15 (n : Nat) : nI n &&& 15 = nI (n % 16) := by
  rw [pk_and _ 4 (by decide), dm_tn]
  exact congrArg nI (by omega)
theorem dm_a7 (n : Nat) : nI n &&& 7 = nI (n % 8) := by
  rw [pk_and _ 3 (by decide), dm_tn]
  exact congrArg nI (by omega)
theorem dm_wrap (a : Nat) : nI (a + 4294967296) = nI a := by
  apply Int32.toBitVec_inj.mp
  apply BitVec.eq_of_toNat_eq
  rw [dm_tn, dm_tn]
  omega
theorem dm_sub {a b : Nat} (h : b ≤ 4294967296) : nI a - nI b = nI (a + 4294967296 - b) := by
  rw [← dm_wrap a, pk_sub (by omega)]
theorem dm_sub255 {a b : Nat} (h : b ≤ 256) : (nI a - nI b) &&& 255 = nI ((a + 256 - b) % 256) := by
  rw [dm_sub (by omega), dm_a255]
  exact congrArg nI (by omega)
theorem dm_sub3 {a b : Nat} (h : b ≤ 256) : (nI a - nI b) &&& 3 = nI ((a + 256 - b) % 4) := by
  rw [dm_sub (by omega), dm_a3]
  exact congrArg nI (by omega)
theorem dm_of (x : Int32) : x = nI x.toBitVec.toNat := by
  apply Int32.toBitVec_inj.1
  show x.toBitVec = BitVec.ofNat 32 x.toBitVec.toNat
  simp
theorem dm_m8 (s : Nat) : nI s * 8 = nI (8 * s) := by
  rw [show (8 : Int32) = nI 8 from rfl, pk_mul, Nat.mul_comm]
theorem dm_sr2 {n : Nat} (h : n < 2 ^ 31) : nI n >>> ((2 : Int32) &&& 31) = nI (n / 4) := pk_shrN h _ 2 (by decide)
theorem dm_sr4 {n : Nat} (h : n < 2 ^ 31) : nI n >>> ((4 : Int32) &&& 31) = nI (n / 16) := pk_shrN h _ 4 (by decide)
/-- bytes of a word as ints -/
theorem dm_b0 (w : Int32) : w &&& 255 = nI (dm_by w 0) := by
  rw [pk_and _ 8 (by decide)]
  unfold dm_by
  exact congrArg nI (by omega)
theorem dm_bs (w : Int32) {s : Nat} (hs : s < 4) : ((w.toUInt32 >>> ((nI (8 * s)).toUInt32 &&& Int32.toUInt32 31)).toInt32) &&& 255 = nI (dm_by w s) := by
  rw [pk_and _ 8 (by decide), pk_ushr w (nI (8 * s)) (8 * s) (s_u (8 * s) (by omega))]
  rfl
theorem dm_b3 (w : Int32) : (w.toUInt32 >>> ((24 : Int32).toUInt32 &&& Int32.toUInt32 31)).toInt32 = nI (dm_by w 3) := by
  rw [dm_of ((w.toUInt32 >>> ((24 : Int32).toUInt32 &&& Int32.toUInt32 31)).toInt32), pk_ushr w 24 24 (by decide)]
  unfold dm_by
  have := w.toBitVec.isLt
  exact congrArg nI (by omega)
theorem dm_k3 (w : Int32) : w &&& 3 = nI (dm_by w 0 % 4) := by
  rw [pk_and _ 2 (by decide)]
  unfold dm_by
  exact congrArg nI (by omega)
theorem dm_k7 (w : Int32) : w &&& 7 = nI (dm_by w 0 % 8) := by
  rw [pk_and _ 3 (by decide)]
  unfold dm_by
  exact congrArg nI (by omega)
theorem dm_by_nI {m : Nat} (hm : m < 256) (j : Nat) : dm_by (nI m) j = if j = 0 then m else 0 := by
  by_cases h : j = 0
  · subst h
    rw [if_pos rfl]
    unfold dm_by
    rw [dm_tn]
    omega
  · rw [if_neg h]
    unfold dm_by
    have e1 : m % 4294967296 = m := by omega
    have e2 : 2 ^ 8 ≤ 2 ^ (8 * j) := Nat.pow_le_pow_right (by decide) (by omega)
    rw [dm_tn, e1, Nat.div_eq_of_lt (Nat.lt_of_lt_of_le hm e2)]
/-! the memory, byte by byte -/
def dm_lb (wd : Nat → Int32) (a : Nat) : Nat := dm_by (wd (a / 4)) (a % 4)
theorem dm_lb_lt (wd : Nat → Int32) (a : Nat) : dm_lb wd a < 256 := dm_by_lt _ _
theorem dm_lb_w (wd : Nat → Int32) {i j : Nat} (hj : j < 4) : dm_lb wd (4 * i + j) = dm_by (wd i) j := by
  unfold dm_lb
  rw [show (4 * i + j) / 4 = i from by omega, show (4 * i + j) % 4 = j from by omega]
theorem dm_lb_re (wd : Nat → Int32) {i s j : Nat} (hi : i < 64) (hs : s < 4) (hj : j < 4) : dm_by (dm_re (wd i) (wd ((i + 1) % 64)) s) j = dm_lb wd ((4 * i + s + j) % 256) := by
  rw [dm_by_re _ _ hs hj]
  by_cases h : s + j < 4
  · rw [if_pos h, ← dm_lb_w wd h]
    exact congrArg (dm_lb wd) (by omega)
  · rw [if_neg h, ← dm_lb_w wd (i := (i + 1) % 64) (j := s + j - 4) (by omega)]
    exact congrArg (dm_lb wd) (by omega)
theorem dm_lb_mg {wd : Nat → Int32} {i : Nat} {v m : Int32} {e : Nat → Bool} (h : ∀ j, j < 4 → ∀ b, b < 8 → bt m (8 * j + b) = e j) (a : Nat) :
    dm_lb (upd wd i ((wd i &&& (m ^^^ (-1))) ||| (v &&& m))) a = if a / 4 = i ∧ e (a % 4) = true then dm_by v (a % 4) else dm_lb wd a := by
  unfold dm_lb
  by_cases hi : a / 4 = i
  · rw [hi, pk_us, dm_by_mg (Nat.mod_lt a (by decide)) (h _ (Nat.mod_lt a (by decide)))]
    by_cases he : e (a % 4) = true
    · rw [if_pos he, if_pos ⟨rfl, he⟩]
    · rw [if_neg he, if_neg (fun z => he z.2)]
  · rw [pk_un hi, if_neg (fun z => hi z.1)]
def dm_MR (wd me : Nat → Int32) : Prop := ∀ a, a < 256 → me a = nI (dm_lb wd a)
end
section
/-! ===== the relation ===== -/
def dm_L (B : Nat → Nat) (c : Nat) : Nat := B (8 * c + 3)
def dm_R (B : Nat → Nat) (c : Nat) : Nat := if B (8 * c) % 4 = 1 then 1 else B (8 * c + 4) % 8
def dm_S (B : Nat → Nat) (c s : Nat) : Nat := if B (8 * c) % 4 = 1 then 0 else B (8 * c + 4 + s)
def dm_ad (B : Nat → Nat) (c i s : Nat) : Nat := (B (8 * c + s) + i / dm_L B c * dm_S B c s + i % dm_L B c) % 256
def dm_K (B Q P : Nat → Nat) (c : Nat) : Nat := Q c * dm_L B c + P c
def dm_T (B : Nat → Nat) (c : Nat) : Nat := dm_L B c * dm_R B c
/-- bounds of the bytes and of a loaded channel's place -/
def dm_FB (B Q P : Nat → Nat) (ld : Nat → Int32) : Prop := (∀ i, i < 32 → B i < 256) ∧ ∀ c, c < 4 → ¬ ld c = 0 → P c < dm_L B c ∧ Q c < dm_R B c
/-- the reference's channels -/
def dm_FY (B Q P : Nat → Nat) (ld dc kk : Nat → Int32) : Prop := (∀ i, i < 32 → dc i = nI (B i)) ∧ (∀ c, c < 4 → ∃ m, m < 2000 ∧ kk c = nI m) ∧ ∀ c, c < 4 → ¬ ld c = 0 → kk c = nI (dm_K B Q P c)
/-- the component's registers of channel c -/
def dm_CX (B Q P : Nat → Nat) (rs rd rl co le ss ds nx ct : Nat → Int32) (c : Nat) : Prop :=
  rs c = nI ((B (8 * c + 1) + Q c * dm_S B c 1) % 256) ∧ rd c = nI ((B (8 * c + 2) + Q c * dm_S B c 2) % 256) ∧ rl c = nI (dm_R B c - Q c) ∧ co c = nI (P c) ∧ le c = nI (dm_L B c) ∧ ss c = nI (dm_S B c 1) ∧ ds c = nI (dm_S B c 2) ∧ nx c = nI (B (8 * c + 7)) ∧ ct c = nI (B (8 * c))
def dm_FX (B Q P : Nat → Nat) (ld rs rd rl co le ss ds nx ct : Nat → Int32) : Prop := ∀ c, c < 4 → ¬ ld c = 0 → dm_CX B Q P rs rd rl co le ss ds nx ct c
def dm_FS (st wt de : Nat → Int32) : Prop := (∀ c, c < 4 → ∃ s, s < 8 ∧ st c = nI s) ∧ (∀ c, c < 4 → ∃ w, 1 ≤ w ∧ w ≤ 32 ∧ wt c = nI w) ∧ (∀ c, c < 4 → ∃ d, d < 256 ∧ de c = nI d)
def dm_F (N H C : Nat) (B Q P : Nat → Nat) (wd st wt de ld rs rd rl co le ss ds nx ct me dc kk : Nat → Int32) : Prop :=
  (1 ≤ N ∧ N ≤ 4 ∧ H < N ∧ C ≤ 32) ∧ dm_FS st wt de ∧ dm_MR wd me ∧ dm_FB B Q P ld ∧ dm_FX B Q P ld rs rd rl co le ss ds nx ct ∧ dm_FY B Q P ld dc kk
def i_Rel (_k : Nat) (u : SX) (v : SY) : Prop := match u with
  | (f0, f1, f2, f3, f4, f5, nn, ho, cr, ev, wd, md, st, wt, de, mv, ld, rs, rd, rl, co, le, ss, ds, nx, ct) => ∃ (N H C : Nat) (me dc kk : Nat → Int32) (B Q P : Nat → Nat), nn = nI N ∧ ho = nI H ∧ cr = nI C ∧ v = (nn, ho, cr, ev, me, md, st, wt, de, mv, ld, dc, kk) ∧ dm_F N H C B Q P wd st wt de ld rs rd rl co le ss ds nx ct me dc kk
theorem i_up {k : Nat} {u : SX} {v : SY} (h : i_Rel k u v) : i_Rel (k + 3) u v := h
section
variable {f0 f1 f2 f3 f4 f5 nn ho cr ev : Int32} {wd md st wt de mv ld rs rd rl co le ss ds nx ct me dc kk : Nat → Int32} {N H C : Nat} {B Q P : Nat → Nat}
theorem dm_mk {k : Nat} (h : dm_F N H C B Q P wd st wt de ld rs rd rl co le ss ds nx ct me dc kk) : i_Rel k (f0, f1, f2, f3, f4, f5, nI N, nI H, nI C, ev, wd, md, st, wt, de, mv, ld, rs, rd, rl, co, le, ss, ds, nx, ct) (nI N, nI H, nI C, ev, me, md, st, wt, de, mv, ld, dc, kk) :=
  ⟨N, H, C, me, dc, kk, B, Q, P, rfl, rfl, rfl, rfl, h⟩
end
theorem dm_el {Z : SX → SY → Prop} {k : Nat} {u : SX} {v : SY} (h : ∀ (f0 f1 f2 f3 f4 f5 ev : Int32) (wd md st wt de mv ld rs rd rl co le ss ds nx ct me dc kk : Nat → Int32) (N H C : Nat) (B Q P : Nat → Nat), dm_F N H C B Q P wd st wt de ld rs rd rl co le ss ds nx ct me dc kk → Z (f0, f1, f2, f3, f4, f5, nI N, nI H, nI C, ev, wd, md, st, wt, de, mv, ld, rs, rd, rl, co, le, ss, ds, nx, ct) (nI N, nI H, nI C, ev, me, md, st, wt, de, mv, ld, dc, kk)) (I : i_Rel k u v) : Z u v := by
  obtain ⟨f0, f1, f2, f3, f4, f5, nn, ho, cr, ev, wd, md, st, wt, de, mv, ld, rs, rd, rl, co, le, ss, ds, nx, ct⟩ := u
  obtain ⟨N, H, C, me, dc, kk, B, Q, P, rfl, rfl, rfl, rfl, F⟩ := I
  exact h f0 f1 f2 f3 f4 f5 ev wd md st wt de mv ld rs rd rl co le ss ds nx ct me dc kk N H C B Q P F
/-! ===== keeping the facts ===== -/
section
variable {f0 f1 f2 f3 f4 f5 nn ho cr ev : Int32} {wd md st wt de mv ld rs rd rl co le ss ds nx ct me dc kk : Nat → Int32} {N H C : Nat} {B Q P : Nat → Nat}
theorem dm_FS_st {c s : Nat} (h : dm_FS st wt de) (hs : s < 8) : dm_FS (upd st c (nI s)) wt de := by
  refine ⟨fun i hi => ?_, h.2⟩
  by_cases e : i = c
  · subst e; exact ⟨s, hs, pk_us⟩
  · rw [pk_un e]; exact h.1 i hi
theorem dm_FS_wt {c w : Nat} (h : dm_FS st wt de) (h1 : 1 ≤ w) (h2 : w ≤ 32) : dm_FS st (upd wt c (nI w)) de := by
  refine ⟨h.1, fun i hi => ?_, h.2.2⟩
  by_cases e : i = c
  · subst e; exact ⟨w, h1, h2, pk_us⟩
  · rw [pk_un e]; exact h.2.1 i hi
theorem dm_FS_de {c d : Nat} (h : dm_FS st wt de) (h1 : d < 256) : dm_FS st wt (upd de c (nI d)) := by
  refine ⟨h.1, h.2.1, fun i hi => ?_⟩
  by_cases e : i = c
  · subst e; exact ⟨d, h1, pk_us⟩
  · rw [pk_un e]; exact h.2.2 i hi
theorem dm_ld0 {c i : Nat} (h : ¬ upd ld c 0 i = 0) : i ≠ c ∧ ¬ ld i = 0 := by
  by_cases e : i = c
  · subst e; exact absurd pk_us h
  · rw [pk_un e] at h; exact ⟨e, h⟩
theorem dm_FB_0 {c : Nat} (h : dm_FB B Q P ld) : dm_FB B Q P (upd ld c 0) := ⟨h.1, fun i hi z => h.2 i hi (dm_ld0 z).2⟩
theorem dm_FX_0 {c : Nat} (h : dm_FX B Q P ld rs rd rl co le ss ds nx ct) : dm_FX B Q P (upd ld c 0) rs rd rl co le ss ds nx ct := fun i hi z => h i hi (dm_ld0 z).2
theorem dm_FY_0 {c : Nat} (h : dm_FY B Q P ld dc kk) : dm_FY B Q P (upd ld c 0) dc kk := ⟨h.1, h.2.1, fun i hi z => h.2.2 i hi (dm_ld0 z).2⟩
theorem dm_F_st {c s : Nat} (h : dm_F N H C B Q P wd st wt de ld rs rd rl co le ss ds nx ct me dc kk) (hs : s < 8) : dm_F N H C B Q P wd (upd st c (nI s)) wt de ld rs rd rl co le ss ds nx ct me dc kk := ⟨h.1, dm_FS_st h.2.1 hs, h.2.2⟩
theorem dm_F_de {c d : Nat} (h : dm_F N H C B Q P wd st wt de ld rs rd rl co le ss ds nx ct me dc kk) (hd : d < 256) : dm_F N H C B Q P wd st wt (upd de c (nI d)) ld rs rd rl co le ss ds nx ct me dc kk := ⟨h.1, dm_FS_de h.2.1 hd, h.2.2⟩
theorem dm_F_wt {c w : Nat} (h : dm_F N H C B Q P wd st wt de ld rs rd rl co le ss ds nx ct me dc kk) (h1 : 1 ≤ w) (h2 : w ≤ 32) : dm_F N H C B Q P wd st (upd wt c (nI w)) de ld rs rd rl co le ss ds nx ct me dc kk := ⟨h.1, dm_FS_wt h.2.1 h1 h2, h.2.2⟩
theorem dm_F_ld {c : Nat} (h : dm_F N H C B Q P wd st wt de ld rs rd rl co le ss ds nx ct me dc kk) : dm_F N H C B Q P wd st wt de (upd ld c 0) rs rd rl co le ss ds nx ct me dc kk := ⟨h.1, h.2.1, h.2.2.1, dm_FB_0 h.2.2.2.1, dm_FX_0 h.2.2.2.2.1, dm_FY_0 h.2.2.2.2.2⟩
end
/-! ===== the constructors ===== -/
def dm_cl (p lo hi : Int32) : Int32 := if lo ≤ p then (if p ≤ hi then p else hi) else lo
theorem dm_cl_w {A : Int32 → Prop} {p lo hi : Int32} (h : A (dm_cl p lo hi)) : ((lo ≤ p → (((p ≤ hi → A p) ∧ (¬ p ≤ hi → A hi)))) ∧ (¬ lo ≤ p → A lo)) := by
  unfold dm_cl at h
  by_cases h1 : lo ≤ p
  · rw [if_pos h1] at h
    by_cases h2 : p ≤ hi
    · rw [if_pos h2] at h; exact br_t h1 (br_t h2 h)
    · rw [if_neg h2] at h; exact br_t h1 (br_f h2 h)
  · rw [if_neg h1] at h; exact br_f h1 h
theorem dm_cl_n (p : Int32) {M : Nat} (h1 : 1 ≤ M) (hM : M < 2 ^ 31) : ∃ N, 1 ≤ N ∧ N ≤ M ∧ dm_cl p 1 (nI M) = nI N := by
  unfold dm_cl
  by_cases a : 1 ≤ p
  · rw [if_pos a]
    have a' : ¬ p < 0 := by
      rw [Int32.le_iff_toInt_le] at a
      rw [Int32.lt_iff_toInt_lt]
      have e1 : (1 : Int32).toInt = 1 := by decide
      have e0 : (0 : Int32).toInt = 0 := by decide
      omega
    obtain ⟨j, hj, rfl⟩ := nI_of a'
    have hj1 : 1 ≤ j := by
      have := (nI_leI (a := 1) (by decide) hj).mp a
      exact this
    by_cases b : nI j ≤ nI M
    · rw [if_pos b]
      exact ⟨j, hj1, (nI_leI hj hM).mp b, rfl⟩
    · rw [if_neg b]; exact ⟨M, h1, Nat.le_refl _, rfl⟩
  · rw [if_neg a]; exact ⟨1, Nat.le_refl _, h1, rfl⟩
def dm_fill (v : Int32) : Nat → (Nat → Int32)
  | 0 => fun _ => 0
  | k + 1 => upd (dm_fill v k) k v
theorem dm_fill_at (v : Int32) : ∀ k i, i < k → dm_fill v k i = v
  | 0, _, h => by omega
  | k + 1, i, h => by
    by_cases e : i = k
    · subst e; exact pk_us
    · exact (pk_un e).trans (dm_fill_at v k i (by omega))
section
variable {f0 f1 f2 f3 f4 f5 nn ho cr ev : Int32} {wd md st wt de mv ld rs rd rl co le ss ds nx ct me dc kk : Nat → Int32}
theorem dm_xcl {post : Int32 → Prop} {p lo hi : Int32} (h : post (dm_cl p lo hi)) : wpX_clamp post (f0, f1, f2, f3, f4, f5, nn, ho, cr, ev, wd, md, st, wt, de, mv, ld, rs, rd, rl, co, le, ss, ds, nx, ct) p lo hi := dm_cl_w (A := post) h
theorem dm_x196 {post : SX → Prop} (h : post (f0, f1, f2, f3, f4, f5, nn, nn - 1, cr, ev, wd, dm_fill 3 16, st, wt, de, mv, ld, rs, rd, rl, co, le, ss, ds, nx, ct)) : ∀ d i, i + d = 16 → wX_init_196 post f0 f1 f2 f3 f4 f5 nn ho cr ev (d + 1) (nI i) wd (dm_fill 3 i) st wt de mv ld rs rd rl co le ss ds nx ct := by
  intro d
  induction d with
  | zero =>
    intro i hi
    have e : i = 16 := by omega
    subst e
    exact br_t (by decide) (nm_e h)
  | succ d ih =>
    intro i hi
    refine br_f (nI_ge (b := 16) (by omega) (by decide)) ⟨vp_in_nI (by omega) (by decide), ?_⟩
    refine nm_r (e' := dm_fill 3 (i + 1)) (by rw [nI_clamp (by omega)]; rfl) ?_
    exact nm_r (nI_1 i) (ih (i + 1) (by omega))
theorem dm_x173 {post : SX → Prop} {w : Int32} (h : ∃ n, wX_init_196 post f0 f1 f2 f3 f4 f5 nn ho cr ev n 0 wd md st (dm_fill w 4) de mv ld rs rd rl co le ss ds nx ct) : ∀ d i, i + d = 4 → wX_init_173 post w f0 f1 f2 f3 f4 f5 nn ho cr ev (d + 1) (nI i) wd md st (dm_fill w i) de mv ld rs rd rl co le ss ds nx ct := by
  intro d
  induction d with
  | zero =>
    intro i hi
    have e : i = 4 := by omega
    subst e
    exact br_t (by decide) h
  | succ d ih =>
    intro i hi
    refine br_f (nI_ge (b := 4) (by omega) (by decide)) ⟨vp_in_nI (by omega) (by decide), ?_⟩
    refine nm_r (e' := dm_fill w (i + 1)) (by rw [nI_clamp (by omega)]; rfl) ?_
    exact nm_r (nI_1 i) (ih (i + 1) (by omega))
theorem dm_y146 {post : SY → Prop} (h : post (nn, ho, cr, ev, me, dm_fill 3 16, st, wt, de, mv, ld, dc, kk)) : ∀ d i, i + d = 16 → wY_init_146 post nn ho cr ev (d + 1) (nI i) me (dm_fill 3 i) st wt de mv ld dc kk := by
  intro d
  induction d with
  | zero =>
    intro i hi
    have e : i = 16 := by omega
    subst e
    exact br_t (by decide) h
  | succ d ih =>
    intro i hi
    refine br_f (nI_ge (b := 16) (by omega) (by decide)) ⟨vp_in_nI (by omega) (by decide), ?_⟩
    refine nm_r (e' := dm_fill 3 (i + 1)) (by rw [nI_clamp (by omega)]; rfl) ?_
    exact nm_r (nI_1 i) (ih (i + 1) (by omega))
theorem dm_y106 {post : SY → Prop} {p w : Int32} (hw : w = dm_cl p 1 32) (h : ∃ n, wY_init_146 post nn ho cr ev n 0 me md st (dm_fill w 4) de mv ld dc kk) : ∀ d i, i + d = 4 → wY_init_106 post p nn ho cr ev (d + 1) (nI i) me md st (dm_fill w i) de mv ld dc kk := by
  intro d
  induction d with
  | zero =>
    intro i hi
    have e : i = 4 := by omega
    subst e
    exact br_t (by decide) h
  | succ d ih =>
    intro i hi
    refine br_f (nI_ge (b := 4) (by omega) (by decide)) ?_
    have K : ∀ a, a = upd (dm_fill w i) (nI i).toNatClampNeg w → ∀ y, y = nI i + 1 → wY_init_106 post p nn ho cr ev (d + 1) y me md st a de mv ld dc kk := by
      refine nm_r (e' := dm_fill w (i + 1)) (by rw [nI_clamp (by omega)]; rfl) ?_
      exact nm_r (nI_1 i) (ih (i + 1) (by omega))
    rw [hw] at K
    exact dm_cl_w (A := fun z => vp_in (nI i) 4 ∧ ∀ a, a = upd (dm_fill w i) (nI i).toNatClampNeg z → ∀ y, y = nI i + 1 → wY_init_106 post p nn ho cr ev (d + 1) y me md st a de mv ld dc kk) (hi := 32) (by rw [hw]; exact ⟨vp_in_nI (by omega) (by decide), K⟩)
end
theorem dm_F0 {N : Nat} {w : Nat} (h1 : 1 ≤ N) (h4 : N ≤ 4) (w1 : 1 ≤ w) (w2 : w ≤ 32) : dm_F N (N - 1) 0 (fun _ => 0) (fun _ => 0) (fun _ => 0) (fun _ => 0) (fun _ => 0) (dm_fill (nI w) 4) (fun _ => 0) (fun _ => 0) (fun _ => 0) (fun _ => 0) (fun _ => 0) (fun _ => 0) (fun _ => 0) (fun _ => 0) (fun _ => 0) (fun _ => 0) (fun _ => 0) (fun _ => 0) (fun _ => 0) (fun _ => 0) := by
  refine ⟨⟨h1, h4, by omega, by omega⟩, ⟨fun c _ => ⟨0, by decide, rfl⟩, fun c hc => ⟨w, w1, w2, dm_fill_at _ 4 c hc⟩, fun c _ => ⟨0, by decide, rfl⟩⟩, ?_, ⟨fun i _ => Nat.zero_lt_succ 255, fun c _ z => absurd rfl z⟩, fun c _ z => absurd rfl z, ⟨fun i _ => rfl, fun c _ => ⟨0, by decide, rfl⟩, fun c _ z => absurd rfl z⟩⟩
  intro a _
  have e : dm_lb (fun _ => 0) a = 0 := dm_by_z (fun b _ => b_0 _)
  rw [e]; rfl
theorem i_vc0 (k0 : Int32) (k1 : Int32) : wpX_init (fun u => wpY_init (fun v => i_Rel 2 u v) k0 k1) k0 k1 := by
  obtain ⟨N, n1, n4, eN⟩ := dm_cl_n k0 (M := 4) (by decide) (by decide)
  obtain ⟨w, w1, w2, ew⟩ := dm_cl_n k1 (M := 32) (by decide) (by decide)
  have eN' : dm_cl k0 1 4 = nI N := eN
  have ew' : dm_cl k1 1 32 = nI w := ew
  unfold wpX_init
  refine dm_xcl ?_
  rw [eN']
  refine dm_xcl ?_
  rw [ew']
  refine ⟨5, dm_x173 ⟨17, ?_⟩ 4 0 rfl⟩
  refine dm_x196 ?_ 16 0 rfl
  unfold wpY_init
  refine dm_cl_w (A := fun z => wY_init_91 _ k1 z 0 0 0 0 (fun _ => 0) (fun _ => 0) (fun _ => 0) (fun _ => 0) (fun _ => 0) (fun _ => 0) (fun _ => 0) (fun _ => 0) (fun _ => 0)) (hi := 4) ?_
  rw [eN']
  refine nm_e ⟨5, dm_y106 ew'.symm ⟨17, ?_⟩ 4 0 rfl⟩
  refine dm_y146 ?_ 16 0 rfl
  have e : nI N - 1 = nI (N - 1) := by
    rw [show (1 : Int32) = nI 1 from rfl, pk_sub n1]
  rw [e]
  exact dm_mk (dm_F0 n1 n4 w1 w2)
end
section
/-! ===== methods without loops over channels ===== -/
section
variable {f0 f1 f2 f3 f4 f5 nn ho cr ev : Int32} {wd md st wt de mv ld rs rd rl co le ss ds nx ct me dc kk : Nat → Int32} {N H C : Nat} {B Q P : Nat → Nat}
theorem dm_adr (p : Int32) : ∃ A, A < 256 ∧ p &&& 255 = nI A ∧ p &&& 3 = nI (A % 4) ∧ ∀ j, (p + nI j) &&& 255 = nI ((A + j) % 256) := by
  refine ⟨p.toBitVec.toNat % 256, by omega, pk_and p 8 (by decide), ?_, fun j => ?_⟩
  · rw [pk_and p 2 (by decide)]
    exact congrArg nI (by omega)
  · have e : p + nI j = nI (p.toBitVec.toNat + j) := by rw [← nI_add, ← dm_of p]
    rw [e, dm_a255]
    exact congrArg nI (by omega)
theorem dm_xmerge {post : SX → Prop} {i : Nat} {x v m : Int32} (hi : i < 64) (hx : x &&& 63 = nI i) (h : post (f0, f1, f2, f3, f4, f5, nn, ho, cr, ev, upd wd i ((wd i &&& (m ^^^ (-1))) ||| (v &&& m)), md, st, wt, de, mv, ld, rs, rd, rl, co, le, ss, ds, nx, ct)) : wpX_merge post (f0, f1, f2, f3, f4, f5, nn, ho, cr, ev, wd, md, st, wt, de, mv, ld, rs, rd, rl, co, le, ss, ds, nx, ct) x v m := by
  refine nm_r hx ?_
  refine ⟨vp_in_nI hi (by decide), vp_in_nI hi (by decide), ?_⟩
  rw [nI_clamp (by omega)]
  exact nm_e h
theorem dm_xstore {post : SX → Prop} {p v : Int32} {A : Nat} (hA : A < 256) (e1 : p &&& 255 = nI A) (e2 : p &&& 3 = nI (A % 4))
    (h : ∀ wd', (∀ a, dm_lb wd' a = if a = A then dm_by v 0 else dm_lb wd a) → post (f0, f1, f2, f3, f4, f5, nn, ho, cr, ev, wd', md, st, wt, de, mv, ld, rs, rd, rl, co, le, ss, ds, nx, ct)) : wpX_store post (f0, f1, f2, f3, f4, f5, nn, ho, cr, ev, wd, md, st, wt, de, mv, ld, rs, rd, rl, co, le, ss, ds, nx, ct) p v := by
  refine nm_r (e' := nI (8 * (A % 4))) (by rw [e2, dm_m8]) ?_
  rw [e1, dm_sr2 (by omega)]
  refine dm_xmerge (i := A / 4) (by omega) (by rw [dm_a63]; exact congrArg nI (by omega)) ?_
  refine h _ ?_
  intro a
  rw [dm_lb_mg (e := fun j => decide (j = A % 4)) (dm_m255 (A % 4) (by omega))]
  by_cases g : a = A
  · subst g
    rw [if_pos ⟨rfl, decide_eq_true rfl⟩, if_pos rfl, dm_by_shl v (by omega) (by omega), if_pos (Nat.le_refl _), Nat.sub_self]
  · rw [if_neg (fun z => g (by have h2 := of_decide_eq_true z.2; have h1 := z.1; omega)), if_neg g]
theorem dm_xload {post : Int32 → Prop} {p : Int32} {A : Nat} (hA : A < 256) (e1 : p &&& 255 = nI A) (e2 : p &&& 3 = nI (A % 4)) (h : post (nI (dm_lb wd A))) : wpX_load post (f0, f1, f2, f3, f4, f5, nn, ho, cr, ev, wd, md, st, wt, de, mv, ld, rs, rd, rl, co, le, ss, ds, nx, ct) p := by
  refine nm_r (e' := nI (8 * (A % 4))) (by rw [e2, dm_m8]) ?_
  rw [e1, dm_sr2 (by omega), nI_clamp (by omega)]
  refine ⟨vp_in_nI (by omega) (by decide), ?_⟩
  rw [dm_bs _ (by omega)]
  exact h
theorem dm_xrealign {post : Int32 → Prop} {lo hi : Int32} {s : Nat} (hs : s < 4) (h : post (dm_re lo hi s)) : wpX_realign post (f0, f1, f2, f3, f4, f5, nn, ho, cr, ev, wd, md, st, wt, de, mv, ld, rs, rd, rl, co, le, ss, ds, nx, ct) lo hi (nI (8 * s)) := by
  unfold dm_re at h
  by_cases h0 : s = 0
  · subst h0; rw [if_pos rfl] at h; exact br_t rfl h
  · rw [if_neg h0] at h; exact br_f (nI_ne0 (by omega) (by omega)) h
theorem dm_xloadWord {post : Int32 → Prop} {p : Int32} {A : Nat} (hA : A < 256) (e1 : p &&& 255 = nI A) (e2 : p &&& 3 = nI (A % 4))
    (h : ∀ w, (∀ j, j < 4 → dm_by w j = dm_lb wd ((A + j) % 256)) → post w) : wpX_loadWord post (f0, f1, f2, f3, f4, f5, nn, ho, cr, ev, wd, md, st, wt, de, mv, ld, rs, rd, rl, co, le, ss, ds, nx, ct) p := by
  refine nm_r (e' := nI (A / 4)) (by rw [e1, dm_sr2 (by omega)]) ?_
  refine nm_r (e' := nI (8 * (A % 4))) (by rw [e2, dm_m8]) ?_
  have ex : (nI (A / 4) + 1) &&& 63 = nI ((A / 4 + 1) % 64) := by rw [nI_1, dm_a63]
  rw [ex, nI_clamp (n := A / 4) (by omega), nI_clamp (n := (A / 4 + 1) % 64) (by omega)]
  refine ⟨vp_in_nI (by omega) (by decide), vp_in_nI (by omega) (by decide), ?_⟩
  refine dm_xrealign (by omega) (h _ ?_)
  intro j hj
  rw [dm_lb_re wd (by omega) (by omega) hj]
  exact congrArg (dm_lb wd) (by omega)
theorem dm_xstoreWord {post : SX → Prop} {p v : Int32} {A : Nat} (hA : A < 256) (e1 : p &&& 255 = nI A) (e2 : p &&& 3 = nI (A % 4))
    (h : ∀ wd', (∀ a, a < 256 → dm_lb wd' a = if (a + 256 - A) % 256 < 4 then dm_by v ((a + 256 - A) % 256) else dm_lb wd a) → post (f0, f1, f2, f3, f4, f5, nn, ho, cr, ev, wd', md, st, wt, de, mv, ld, rs, rd, rl, co, le, ss, ds, nx, ct)) : wpX_storeWord post (f0, f1, f2, f3, f4, f5, nn, ho, cr, ev, wd, md, st, wt, de, mv, ld, rs, rd, rl, co, le, ss, ds, nx, ct) p v := by
  refine nm_r (e' := nI (A / 4)) (by rw [e1, dm_sr2 (by omega)]) ?_
  refine nm_r (e' := nI (8 * (A % 4))) (by rw [e2, dm_m8]) ?_
  refine dm_xmerge (i := A / 4) (by omega) (by rw [dm_a63]; exact congrArg nI (by omega)) ?_
  have s4 : A % 4 < 4 := by omega
  have k1 : ∀ a, dm_lb (upd wd (A / 4) ((wd (A / 4) &&& (((-1 : Int32) <<< (nI (8 * (A % 4)) &&& 31)) ^^^ (-1))) ||| ((v <<< (nI (8 * (A % 4)) &&& 31)) &&& ((-1 : Int32) <<< (nI (8 * (A % 4)) &&& 31))))) a = if a / 4 = A / 4 ∧ A % 4 ≤ a % 4 then dm_by v (a % 4 - A % 4) else dm_lb wd a := by
    intro a
    rw [dm_lb_mg (e := fun j => decide (A % 4 ≤ j)) (dm_mshl (A % 4) s4)]
    by_cases g : a / 4 = A / 4 ∧ A % 4 ≤ a % 4
    · rw [if_pos ⟨g.1, decide_eq_true g.2⟩, if_pos g, dm_by_shl v s4 (by omega), if_pos g.2]
    · rw [if_neg (fun z => g ⟨z.1, of_decide_eq_true z.2⟩), if_neg g]
  generalize upd wd (A / 4) ((wd (A / 4) &&& (((-1 : Int32) <<< (nI (8 * (A % 4)) &&& 31)) ^^^ (-1))) ||| ((v <<< (nI (8 * (A % 4)) &&& 31)) &&& ((-1 : Int32) <<< (nI (8 * (A % 4)) &&& 31)))) = w1 at k1 ⊢
  by_cases z : A % 4 = 0
  · refine br_t (by rw [z]; rfl) ?_
    refine h w1 ?_
    intro a ha
    rw [k1]
    by_cases g : (a + 256 - A) % 256 < 4
    · rw [if_pos g, if_pos ⟨by omega, by omega⟩]
      exact congrArg (dm_by v) (by omega)
    · rw [if_neg g, if_neg (by omega)]
  · refine br_f (nI_ne0 (by omega) (by omega)) ?_
    refine dm_xmerge (i := (A / 4 + 1) % 64) (by omega) (by rw [nI_1, dm_a63]) ?_
    refine h _ ?_
    intro a ha
    rw [dm_lb_mg (e := fun j => decide (j < A % 4)) (dm_mshr (A % 4) s4 (by omega)), dm_32 (A % 4) s4 (by omega)]
    by_cases g2 : a / 4 = (A / 4 + 1) % 64 ∧ a % 4 < A % 4
    · rw [if_pos ⟨g2.1, decide_eq_true g2.2⟩, dm_by_shr v _ (by omega), if_pos (by omega), if_pos (by omega)]
      exact congrArg (dm_by v) (by omega)
    · rw [if_neg (fun z => g2 ⟨z.1, of_decide_eq_true z.2⟩), k1]
      by_cases g : (a + 256 - A) % 256 < 4
      · rw [if_pos g, if_pos (by omega)]
        exact congrArg (dm_by v) (by omega)
      · rw [if_neg g, if_neg (by omega)]
/-- the reference's word store and load, four bytes -/
theorem dm_ystoreWord {post : SY → Prop} {p v : Int32} {A : Nat} (hA : A < 256) (e1 : ∀ j, (p + nI j) &&& 255 = nI ((A + j) % 256))
    (h : ∀ me', (∀ a, a < 256 → me' a = if (a + 256 - A) % 256 < 4 then nI (dm_by v ((a + 256 - A) % 256)) else me a) → post (nn, ho, cr, ev, me', md, st, wt, de, mv, ld, dc, kk)) : wpY_storeWord post (nn, ho, cr, ev, me, md, st, wt, de, mv, ld, dc, kk) p v := by
  have key : ∀ d j me', j + d = 4 → (∀ a, a < 256 → me' a = if (a + 256 - A) % 256 < j then nI (dm_by v ((a + 256 - A) % 256)) else me a) → wY_storeWord_2 post p v nn ho cr ev (d + 1) (nI j) me' md st wt de mv ld dc kk := by
    intro d
    induction d with
    | zero =>
      intro j me' hj hm
      have e : j = 4 := by omega
      subst e
      exact br_t (by decide) (h me' hm)
    | succ d ih =>
      intro j me' hj hm
      refine br_f (nI_ge (b := 4) (by omega) (by decide)) ?_
      have e8 : (8 : Int32) * nI j = nI (8 * j) := pk_mul 8 j
      rw [e1 j, nI_clamp (by omega), e8, dm_bs v (by omega)]
      refine ⟨vp_in_nI (by omega) (by decide), nm_e (nm_r (nI_1 j) (ih (j + 1) _ (by omega) ?_))⟩
      intro a ha
      by_cases g : a = (A + j) % 256
      · rw [g, pk_us, if_pos (by omega)]
        exact congrArg (fun z => nI (dm_by v z)) (by omega)
      · rw [pk_un g, hm a ha]
        by_cases g2 : (a + 256 - A) % 256 < j
        · rw [if_pos g2, if_pos (by omega)]
        · rw [if_neg g2, if_neg (by omega)]
  exact ⟨5, key 4 0 me rfl (fun a ha => by rw [if_neg (by omega)])⟩
theorem dm_yloadWord {post : Int32 → Prop} {p : Int32} {A : Nat} {f : Nat → Nat} (hA : A < 256) (e1 : ∀ j, (p + nI j) &&& 255 = nI ((A + j) % 256)) (hm : ∀ a, a < 256 → me a = nI (f a)) (hf : ∀ a, f a < 256)
    (h : ∀ w, (∀ j, j < 4 → dm_by w j = f ((A + j) % 256)) → post w) : wpY_loadWord post (nn, ho, cr, ev, me, md, st, wt, de, mv, ld, dc, kk) p := by
  have key : ∀ d j w, j + d = 4 → (∀ i, i < 4 → dm_by w i = if i < j then f ((A + i) % 256) else 0) → wY_loadWord_4 post p nn ho cr ev me md st wt de mv ld dc kk (d + 1) w (nI j) := by
    intro d
    induction d with
    | zero =>
      intro j w hj hw
      have e : j = 4 := by omega
      subst e
      exact br_t (by decide) (h w (fun i hi => by rw [hw i hi, if_pos hi]))
    | succ d ih =>
      intro j w hj hw
      refine br_f (nI_ge (b := 4) (by omega) (by decide)) ?_
      have e8 : (8 : Int32) * nI j = nI (8 * j) := pk_mul 8 j
      rw [e1 j, nI_clamp (by omega), e8, hm _ (by omega)]
      refine ⟨vp_in_nI (by omega) (by decide), nm_e (nm_r (nI_1 j) (ih (j + 1) _ (by omega) ?_))⟩
      intro i hi
      rw [dm_by_or, hw i hi, dm_by_shl _ (by omega) hi]
      rcases Nat.lt_trichotomy i j with g | g | g
      · rw [if_pos g, if_neg (by omega), if_pos (by omega), Nat.or_zero]
      · subst g
        rw [if_neg (by omega), if_pos (by omega), if_pos (by omega), Nat.sub_self, dm_by_nI (hf _), if_pos rfl, Nat.zero_or]
      · rw [if_neg (by omega), if_pos (by omega), if_neg (by omega), dm_by_nI (hf _), if_neg (by omega), Nat.zero_or]
  exact ⟨5, key 4 0 0 rfl (fun i hi => by rw [if_neg (by omega)]; exact dm_by_z (fun b _ => b_0 _))⟩
end
theorem i_vc_store {k : Nat} {u : SX} {v : SY} (I : i_Rel k u v) (hk : k + 3 ≤ 1538) (v1 : Int32) (v2 : Int32) : wpX_store (fun u' => wpY_store (fun v' => i_Rel (k + 3) u' v') v v1 v2) u v1 v2 := by
  refine dm_el (Z := fun u v => wpX_store (fun u' => wpY_store (fun v' => i_Rel (k + 3) u' v') v v1 v2) u v1 v2) ?_ I
  intro f0 f1 f2 f3 f4 f5 ev wd md st wt de mv ld rs rd rl co le ss ds nx ct me dc kk N H C B Q P F
  obtain ⟨A, hA, e1, e2, e3⟩ := dm_adr v1
  refine dm_xstore hA e1 e2 ?_
  intro wd' hw
  unfold wpY_store
  refine ⟨by rw [e1]; exact vp_in_nI hA (by decide), ?_⟩
  refine nm_e ?_
  rw [e1, nI_clamp (by omega), dm_b0]
  refine dm_mk ⟨F.1, F.2.1, ?_, F.2.2.2⟩
  intro a ha
  rw [hw a]
  by_cases g : a = A
  · subst g; rw [pk_us, if_pos rfl]
  · rw [pk_un g, if_neg g]; exact F.2.2.1 a ha
theorem i_vc_storeWord {k : Nat} {u : SX} {v : SY} (I : i_Rel k u v) (hk : k + 3 ≤ 1538) (v1 : Int32) (v2 : Int32) : wpX_storeWord (fun u' => wpY_storeWord (fun v' => i_Rel (k + 3) u' v') v v1 v2) u v1 v2 := by
  refine dm_el (Z := fun u v => wpX_storeWord (fun u' => wpY_storeWord (fun v' => i_Rel (k + 3) u' v') v v1 v2) u v1 v2) ?_ I
  intro f0 f1 f2 f3 f4 f5 ev wd md st wt de mv ld rs rd rl co le ss ds nx ct me dc kk N H C B Q P F
  obtain ⟨A, hA, e1, e2, e3⟩ := dm_adr v1
  refine dm_xstoreWord hA e1 e2 ?_
  intro wd' hw
  refine dm_ystoreWord hA e3 ?_
  intro me' hm
  refine dm_mk ⟨F.1, F.2.1, ?_, F.2.2.2⟩
  intro a ha
  rw [hw a ha, hm a ha]
  by_cases g : (a + 256 - A) % 256 < 4
  · rw [if_pos g, if_pos g]
  · rw [if_neg g, if_neg g]; exact F.2.2.1 a ha
theorem i_vc_load {k : Nat} {u : SX} {v : SY} (I : i_Rel k u v) (hk : k + 3 ≤ 1538) (v1 : Int32) : wpX_load (fun r => wpY_load (fun r' => r' = r ∧ i_Rel (k + 3) u v) v v1) u v1 := by
  refine dm_el (Z := fun u v => ∀ Z : Prop, Z → wpX_load (fun r => wpY_load (fun r' => r' = r ∧ Z) v v1) u v1) ?_ I _ (i_up I)
  intro f0 f1 f2 f3 f4 f5 ev wd md st wt de mv ld rs rd rl co le ss ds nx ct me dc kk N H C B Q P F Z hZ
  obtain ⟨A, hA, e1, e2, e3⟩ := dm_adr v1
  refine dm_xload hA e1 e2 ?_
  unfold wpY_load
  refine ⟨by rw [e1]; exact vp_in_nI hA (by decide), ?_, hZ⟩
  rw [e1, nI_clamp (by omega)]
  exact F.2.2.1 A hA
theorem i_vc_loadWord {k : Nat} {u : SX} {v : SY} (I : i_Rel k u v) (hk : k + 3 ≤ 1538) (v1 : Int32) : wpX_loadWord (fun r => wpY_loadWord (fun r' => r' = r ∧ i_Rel (k + 3) u v) v v1) u v1 := by
  refine dm_el (Z := fun u v => ∀ Z : Prop, Z → wpX_loadWord (fun r => wpY_loadWord (fun r' => r' = r ∧ Z) v v1) u v1) ?_ I _ (i_up I)
  intro f0 f1 f2 f3 f4 f5 ev wd md st wt de mv ld rs rd rl co le ss ds nx ct me dc kk N H C B Q P F Z hZ
  obtain ⟨A, hA, e1, e2, e3⟩ := dm_adr v1
  refine dm_xloadWord hA e1 e2 ?_
  intro w hw
  refine dm_yloadWord hA e3 F.2.2.1 (dm_lb_lt wd) ?_
  intro w' hw'
  exact ⟨dm_by_ext (fun j hj => by rw [hw j hj, hw' j hj]), hZ⟩
end
section
/-! ===== control of channels ===== -/
def dm_lv (s : Nat) : Bool := s == 1 || s == 2 || decide (5 ≤ s)
def dm_ha (s : Nat) : Bool := s == 2 || decide (5 ≤ s)
section
variable {f0 f1 f2 f3 f4 f5 nn ho cr ev : Int32} {wd md st wt de mv ld rs rd rl co le ss ds nx ct me dc kk : Nat → Int32} {N H C : Nat} {B Q P : Nat → Nat}
theorem dm_xch {post : Int32 → Prop} {c : Nat} (hc : c < N) (hN : N ≤ 4) (h : post 1) : wpX_isChannel post (f0, f1, f2, f3, f4, f5, nI N, ho, cr, ev, wd, md, st, wt, de, mv, ld, rs, rd, rl, co, le, ss, ds, nx, ct) (nI c) :=
  br_f (nI_pos (by omega)) (br_f (nI_ge hc (by omega)) h)
theorem dm_xchf {post : Int32 → Prop} {p : Int32} (g : p < 0 ∨ nI N ≤ p) (h : post 0) : wpX_isChannel post (f0, f1, f2, f3, f4, f5, nI N, ho, cr, ev, wd, md, st, wt, de, mv, ld, rs, rd, rl, co, le, ss, ds, nx, ct) p := by
  by_cases z : p < 0
  · exact br_t z h
  · exact br_f z (br_t (g.resolve_left z) h)
theorem dm_ych {A1 A2 A3 : Prop} {c : Nat} (hc : c < N) (hN : N ≤ 4) (h : A2) : (nI c < 0 → A1) ∧ (¬ nI c < 0 → ((nI c < nI N → A2) ∧ (¬ nI c < nI N → A3))) :=
  br_f (nI_pos (by omega)) (br_t (nI_lt hc (by omega)) h)
theorem dm_ychf {A1 A2 : Prop} {p : Int32} (g : p < 0 ∨ nI N ≤ p) (h : A1) : (p < 0 → A1) ∧ (¬ p < 0 → ((p < nI N → A2) ∧ (¬ p < nI N → A1))) := by
  by_cases z : p < 0
  · exact br_t z h
  · exact br_f z (br_f (Int32.not_lt.mpr (g.resolve_left z)) h)
theorem dm_xHalted {post : Int32 → Prop} {c s : Nat} (hc : c < 4) (hs : st c = nI s) (h8 : s < 8) (h1 : dm_ha s = true → post 1) (h0 : dm_ha s = false → post 0) : wpX_isHalted post (f0, f1, f2, f3, f4, f5, nn, ho, cr, ev, wd, md, st, wt, de, mv, ld, rs, rd, rl, co, le, ss, ds, nx, ct) (nI c) := by
  have e : st (nI c).toNatClampNeg = nI s := by rw [nI_clamp (by omega)]; exact hs
  have v4 : vp_in (nI c) 4 := vp_in_nI hc (by decide)
  refine ⟨v4, pk_eq s 2 (fun z => h1 (by subst z; rfl)) (fun z => ⟨v4, pk_lt s 5 (fun w => h0 ?_) (fun w => h1 ?_) (hx := e)⟩) (hx := e)⟩
  · have : s = 0 ∨ s = 1 ∨ s = 3 ∨ s = 4 := by omega
    rcases this with rfl | rfl | rfl | rfl <;> rfl
  · have : s = 5 ∨ s = 6 ∨ s = 7 := by omega
    rcases this with rfl | rfl | rfl <;> rfl
theorem dm_xLive {post : Int32 → Prop} {c s : Nat} (hc : c < 4) (hs : st c = nI s) (h8 : s < 8) (h1 : dm_lv s = true → post 1) (h0 : dm_lv s = false → post 0) : wpX_isLive post (f0, f1, f2, f3, f4, f5, nn, ho, cr, ev, wd, md, st, wt, de, mv, ld, rs, rd, rl, co, le, ss, ds, nx, ct) (nI c) := by
  have e : st (nI c).toNatClampNeg = nI s := by rw [nI_clamp (by omega)]; exact hs
  have v4 : vp_in (nI c) 4 := vp_in_nI hc (by decide)
  refine ⟨v4, pk_eq s 1 (fun z => h1 (by subst z; rfl)) (fun z => ?_) (hx := e)⟩
  have el : dm_lv s = dm_ha s := by
    unfold dm_lv dm_ha
    rw [show (s == 1) = false from beq_false_of_ne z, Bool.false_or]
  exact dm_xHalted hc hs h8 (fun w => br_f (by decide) (h1 (el.trans w))) (fun w => br_t rfl (h0 (el.trans w)))
theorem dm_ychange {post : Int32 → SY → Prop} {c s : Nat} {m t : Int32} (hc : c < N) (hN : N ≤ 4) (hs : st c = nI s) (h1 : ¬ ((m >>> (nI s &&& 31)) &&& 1) = 0 → post 0 (nI N, ho, cr, ev, me, md, upd st c t, wt, de, mv, ld, dc, kk)) (h0 : ((m >>> (nI s &&& 31)) &&& 1) = 0 → post (-3) (nI N, ho, cr, ev, me, md, st, wt, de, mv, ld, dc, kk)) : wpY_change post (nI N, ho, cr, ev, me, md, st, wt, de, mv, ld, dc, kk) (nI c) m t := by
  unfold wpY_change
  refine dm_ych hc hN ?_
  rw [nI_clamp (by omega), hs]
  exact ⟨vp_in_nI (by omega) (by decide), br_c h0 (fun z => ⟨vp_in_nI (by omega) (by decide), nm_e (h1 z)⟩)⟩
theorem dm_ychangef {post : Int32 → SY → Prop} {p m t : Int32} (g : p < 0 ∨ nI N ≤ p) (h : post (-1) (nI N, ho, cr, ev, me, md, st, wt, de, mv, ld, dc, kk)) : wpY_change post (nI N, ho, cr, ev, me, md, st, wt, de, mv, ld, dc, kk) p m t := by
  unfold wpY_change
  exact dm_ychf g h
end
theorem dm_c25 : ∀ s, s < 8 → ((((25 : Int32) >>> (nI s &&& 31)) &&& 1) = 0 ↔ dm_lv s = true) := by decide +kernel
theorem dm_c2 : ∀ s, s < 8 → ((((2 : Int32) >>> (nI s &&& 31)) &&& 1) = 0 ↔ ¬ nI s = 1) := by decide +kernel
theorem dm_c228 : ∀ s, s < 8 → ((((228 : Int32) >>> (nI s &&& 31)) &&& 1) = 0 ↔ dm_ha s = false) := by decide +kernel
theorem dm_c230 : ∀ s, s < 8 → (((((6 : Int32) ||| 224) >>> (nI s &&& 31)) &&& 1) = 0 ↔ dm_lv s = false) := by decide +kernel
theorem dm_split {N : Nat} (hN : N ≤ 4) (p : Int32) : (p < 0 ∨ nI N ≤ p) ∨ ∃ c, c < N ∧ p = nI c := by
  rcases pk_ix p (n := N) (by omega) with h | h | h
  · exact Or.inl (Or.inl h)
  · exact Or.inl (Or.inr h)
  · exact Or.inr h
theorem i_vc_setAccess {k : Nat} {u : SX} {v : SY} (I : i_Rel k u v) (hk : k + 3 ≤ 1538) (v1 : Int32) (v2 : Int32) : wpX_setAccess (fun r u' => wpY_setAccess (fun r' v' => r' = r ∧ i_Rel (k + 3) u' v') v v1 v2) u v1 v2 := by
  refine dm_el (Z := fun u v => wpX_setAccess (fun r u' => wpY_setAccess (fun r' v' => r' = r ∧ i_Rel (k + 3) u' v') v v1 v2) u v1 v2) ?_ I
  intro f0 f1 f2 f3 f4 f5 ev wd md st wt de mv ld rs rd rl co le ss ds nx ct me dc kk N H C B Q P F
  unfold wpX_setAccess wpY_setAccess
  by_cases a1 : v1 < 0
  · exact br_t a1 (br_t a1 ⟨rfl, dm_mk F⟩)
  refine br_f a1 ?_
  by_cases a2 : 15 < v1
  · exact br_t a2 (br_f a1 (br_t a2 ⟨rfl, dm_mk F⟩))
  refine br_f a2 ?_
  by_cases a3 : v2 < 0
  · exact br_t a3 (br_f a1 (br_f a2 (br_t a3 ⟨rfl, dm_mk F⟩)))
  refine br_f a3 ?_
  by_cases a4 : v2 ≤ 3
  · have vi : vp_in v1 16 := by
      obtain ⟨j, hj, rfl⟩ := nI_of a1
      have : ¬ 15 < j := fun z => a2 ((nI_ltI (a := 15) (by decide) hj).mpr z)
      exact vp_in_nI (by omega) (by decide)
    exact br_t a4 ⟨vi, nm_e (br_f a1 (br_f a2 (br_f a3 (br_t a4 ⟨vi, nm_e ⟨rfl, dm_mk F⟩⟩))))⟩
  · exact br_f a4 (br_f a1 (br_f a2 (br_f a3 (br_f a4 ⟨rfl, dm_mk F⟩))))
theorem i_vc_access {k : Nat} {u : SX} {v : SY} (I : i_Rel k u v) (hk : k + 3 ≤ 1538) (v1 : Int32) : wpX_access (fun r => wpY_access (fun r' => r' = r ∧ i_Rel (k + 3) u v) v v1) u v1 := by
  refine dm_el (Z := fun u v => ∀ Z : Prop, Z → wpX_access (fun r => wpY_access (fun r' => r' = r ∧ Z) v v1) u v1) ?_ I _ (i_up I)
  intro f0 f1 f2 f3 f4 f5 ev wd md st wt de mv ld rs rd rl co le ss ds nx ct me dc kk N H C B Q P F Z hZ
  unfold wpX_access wpY_access
  by_cases a1 : v1 < 0
  · exact br_t a1 (br_t a1 ⟨rfl, hZ⟩)
  refine br_f a1 ?_
  by_cases a2 : v1 ≤ 15
  · have vi : vp_in v1 16 := by
      obtain ⟨j, hj, rfl⟩ := nI_of a1
      have := (nI_leI (b := 15) hj (by decide)).mp a2
      exact vp_in_nI (by omega) (by decide)
    exact br_t a2 ⟨vi, br_f a1 (br_t a2 ⟨vi, rfl, hZ⟩)⟩
  · exact br_f a2 (br_f a1 (br_f a2 ⟨rfl, hZ⟩))
theorem i_vc_setWeight {k : Nat} {u : SX} {v : SY} (I : i_Rel k u v) (hk : k + 3 ≤ 1538) (v1 : Int32) (v2 : Int32) : wpX_setWeight (fun r u' => wpY_setWeight (fun r' v' => r' = r ∧ i_Rel (k + 3) u' v') v v1 v2) u v1 v2 := by
  refine dm_el (Z := fun u v => wpX_setWeight (fun r u' => wpY_setWeight (fun r' v' => r' = r ∧ i_Rel (k + 3) u' v') v v1 v2) u v1 v2) ?_ I
  intro f0 f1 f2 f3 f4 f5 ev wd md st wt de mv ld rs rd rl co le ss ds nx ct me dc kk N H C B Q P F
  unfold wpX_setWeight wpY_setWeight
  rcases dm_split F.1.2.1 v1 with g | ⟨c, hc, rfl⟩
  · exact dm_xchf g (br_t rfl (dm_ychf g ⟨rfl, dm_mk F⟩))
  have vi : vp_in (nI c) 4 := vp_in_nI (by have := F.1.2.1; omega) (by decide)
  refine dm_xch hc F.1.2.1 (br_f (by decide) ?_)
  by_cases a1 : v2 < 1
  · exact br_t a1 (dm_ych hc F.1.2.1 (br_t a1 ⟨rfl, dm_mk F⟩))
  refine br_f a1 ?_
  by_cases a2 : v2 ≤ 32
  · refine br_t a2 ⟨vi, nm_e (dm_ych hc F.1.2.1 (br_f a1 (br_t a2 ⟨vi, nm_e ⟨rfl, ?_⟩⟩)))⟩
    have a0 : ¬ v2 < 0 := fun z => a1 (Int32.lt_trans z (by decide))
    obtain ⟨j, hj, rfl⟩ := nI_of a0
    have j1 : ¬ j < 1 := fun z => a1 ((nI_ltI (b := 1) hj (by decide)).mpr z)
    have j2 := (nI_leI (b := 32) hj (by decide)).mp a2
    exact dm_mk (dm_F_wt F (by omega) j2)
  · exact br_f a2 (dm_ych hc F.1.2.1 (br_f a1 (br_f a2 ⟨rfl, dm_mk F⟩)))
theorem i_vc_start {k : Nat} {u : SX} {v : SY} (I : i_Rel k u v) (hk : k + 3 ≤ 1538) (v1 : Int32) (v2 : Int32) : wpX_start (fun r u' => wpY_start (fun r' v' => r' = r ∧ i_Rel (k + 3) u' v') v v1 v2) u v1 v2 := by
  refine dm_el (Z := fun u v => wpX_start (fun r u' => wpY_start (fun r' v' => r' = r ∧ i_Rel (k + 3) u' v') v v1 v2) u v1 v2) ?_ I
  intro f0 f1 f2 f3 f4 f5 ev wd md st wt de mv ld rs rd rl co le ss ds nx ct me dc kk N H C B Q P F
  unfold wpX_start wpY_start
  have hN := F.1.2.1
  rcases dm_split hN v1 with g | ⟨c, hc, rfl⟩
  · exact dm_xchf g (br_t rfl (dm_ychangef g (br_f (by decide) ⟨rfl, dm_mk F⟩)))
  have vi : vp_in (nI c) 4 := vp_in_nI (by omega) (by decide)
  obtain ⟨s, h8, hs⟩ := F.2.1.1 c (by omega)
  refine dm_xch hc hN (br_f (by decide) ?_)
  refine dm_xLive (by omega) hs h8 ?_ ?_
  · intro z
    exact br_f (by decide) (dm_ychange hc hN hs (fun w => absurd ((dm_c25 s h8).mpr z) w) (fun _ => br_f (by decide) ⟨rfl, dm_mk F⟩))
  · intro z
    refine br_t rfl ⟨vi, nm_e ⟨vi, nm_e ⟨vi, nm_e ⟨vi, nm_e ?_⟩⟩⟩⟩
    refine dm_ychange hc hN hs (fun _ => br_t rfl ⟨vi, nm_e ⟨vi, nm_e ⟨vi, nm_e ⟨rfl, ?_⟩⟩⟩⟩) (fun w => absurd ((dm_c25 s h8).mp w) (by rw [z]; decide))
    obtain ⟨A, hA, e1, _⟩ := dm_adr v2
    rw [nI_clamp (by omega), e1]
    exact dm_mk (dm_F_ld (dm_F_de (dm_F_st (s := 1) F (by decide)) hA))
theorem i_vc_pause {k : Nat} {u : SX} {v : SY} (I : i_Rel k u v) (hk : k + 3 ≤ 1538) (v1 : Int32) : wpX_pause (fun r u' => wpY_pause (fun r' v' => r' = r ∧ i_Rel (k + 3) u' v') v v1) u v1 := by
  refine dm_el (Z := fun u v => wpX_pause (fun r u' => wpY_pause (fun r' v' => r' = r ∧ i_Rel (k + 3) u' v') v v1) u v1) ?_ I
  intro f0 f1 f2 f3 f4 f5 ev wd md st wt de mv ld rs rd rl co le ss ds nx ct me dc kk N H C B Q P F
  unfold wpX_pause wpY_pause
  have hN := F.1.2.1
  rcases dm_split hN v1 with g | ⟨c, hc, rfl⟩
  · exact dm_xchf g (br_t rfl (dm_ychangef g ⟨rfl, dm_mk F⟩))
  have vi : vp_in (nI c) 4 := vp_in_nI (by omega) (by decide)
  obtain ⟨s, h8, hs⟩ := F.2.1.1 c (by omega)
  refine dm_xch hc hN (br_f (by decide) ⟨vi, ?_⟩)
  rw [nI_clamp (by omega), hs]
  refine br_c ?_ ?_
  · intro z
    exact ⟨vi, nm_e (dm_ychange hc hN hs (fun _ => ⟨rfl, dm_mk (dm_F_st (s := 2) F (by decide))⟩) (fun w => absurd z ((dm_c2 s h8).mp w)))⟩
  · intro z
    exact dm_ychange hc hN hs (fun w => absurd ((dm_c2 s h8).mpr z) w) (fun _ => ⟨rfl, dm_mk F⟩)
theorem i_vc_resume {k : Nat} {u : SX} {v : SY} (I : i_Rel k u v) (hk : k + 3 ≤ 1538) (v1 : Int32) : wpX_resume (fun r u' => wpY_resume (fun r' v' => r' = r ∧ i_Rel (k + 3) u' v') v v1) u v1 := by
  refine dm_el (Z := fun u v => wpX_resume (fun r u' => wpY_resume (fun r' v' => r' = r ∧ i_Rel (k + 3) u' v') v v1) u v1) ?_ I
  intro f0 f1 f2 f3 f4 f5 ev wd md st wt de mv ld rs rd rl co le ss ds nx ct me dc kk N H C B Q P F
  unfold wpX_resume wpY_resume
  have hN := F.1.2.1
  rcases dm_split hN v1 with g | ⟨c, hc, rfl⟩
  · exact dm_xchf g (br_t rfl (dm_ychangef g ⟨rfl, dm_mk F⟩))
  have vi : vp_in (nI c) 4 := vp_in_nI (by omega) (by decide)
  obtain ⟨s, h8, hs⟩ := F.2.1.1 c (by omega)
  refine dm_xch hc hN (br_f (by decide) ?_)
  refine dm_xHalted (by omega) hs h8 ?_ ?_
  · intro z
    refine br_f (by decide) ⟨vi, nm_e ?_⟩
    rw [nI_clamp (by omega)]
    exact dm_ychange hc hN hs (fun _ => ⟨rfl, dm_mk (dm_F_st (s := 1) F (by decide))⟩) (fun w => absurd ((dm_c228 s h8).mp w) (by rw [z]; decide))
  · intro z
    exact br_t rfl (dm_ychange hc hN hs (fun w => absurd ((dm_c228 s h8).mpr z) w) (fun _ => ⟨rfl, dm_mk F⟩))
theorem i_vc_abort {k : Nat} {u : SX} {v : SY} (I : i_Rel k u v) (hk : k + 3 ≤ 1538) (v1 : Int32) : wpX_abort (fun r u' => wpY_abort (fun r' v' => r' = r ∧ i_Rel (k + 3) u' v') v v1) u v1 := by
  refine dm_el (Z := fun u v => wpX_abort (fun r u' => wpY_abort (fun r' v' => r' = r ∧ i_Rel (k + 3) u' v') v v1) u v1) ?_ I
  intro f0 f1 f2 f3 f4 f5 ev wd md st wt de mv ld rs rd rl co le ss ds nx ct me dc kk N H C B Q P F
  unfold wpX_abort wpY_abort
  have hN := F.1.2.1
  rcases dm_split hN v1 with g | ⟨c, hc, rfl⟩
  · exact dm_xchf g (br_t rfl (dm_ychangef g ⟨rfl, dm_mk F⟩))
  have vi : vp_in (nI c) 4 := vp_in_nI (by omega) (by decide)
  obtain ⟨s, h8, hs⟩ := F.2.1.1 c (by omega)
  refine dm_xch hc hN (br_f (by decide) ?_)
  refine dm_xLive (by omega) hs h8 ?_ ?_
  · intro z
    refine br_f (by decide) ⟨vi, nm_e ?_⟩
    rw [nI_clamp (by omega)]
    exact dm_ychange hc hN hs (fun _ => ⟨rfl, dm_mk (dm_F_st (s := 4) F (by decide))⟩) (fun w => absurd ((dm_c230 s h8).mp w) (by rw [z]; decide))
  · intro z
    exact br_t rfl (dm_ychange hc hN hs (fun w => absurd ((dm_c230 s h8).mpr z) w) (fun _ => ⟨rfl, dm_mk F⟩))
theorem i_vc_state {k : Nat} {u : SX} {v : SY} (I : i_Rel k u v) (hk : k + 3 ≤ 1538) (v1 : Int32) : wpX_state (fun r => wpY_state (fun r' => r' = r ∧ i_Rel (k + 3) u v) v v1) u v1 := by
  refine dm_el (Z := fun u v => ∀ Z : Prop, Z → wpX_state (fun r => wpY_state (fun r' => r' = r ∧ Z) v v1) u v1) ?_ I _ (i_up I)
  intro f0 f1 f2 f3 f4 f5 ev wd md st wt de mv ld rs rd rl co le ss ds nx ct me dc kk N H C B Q P F Z hZ
  unfold wpX_state wpY_state
  have hN := F.1.2.1
  rcases dm_split hN v1 with g | ⟨c, hc, rfl⟩
  · exact dm_xchf g (br_t rfl (dm_ychf g ⟨rfl, hZ⟩))
  have vi : vp_in (nI c) 4 := vp_in_nI (by omega) (by decide)
  exact dm_xch hc hN (br_f (by decide) ⟨vi, dm_ych hc hN ⟨vi, rfl, hZ⟩⟩)
theorem i_vc_arbiter {k : Nat} {u : SX} {v : SY} (I : i_Rel k u v) (hk : k + 3 ≤ 1538) : wpX_arbiter (fun r => wpY_arbiter (fun r' => r' = r ∧ i_Rel (k + 3) u v) v) u := by
  refine dm_el (Z := fun u v => ∀ Z : Prop, Z → wpX_arbiter (fun r => wpY_arbiter (fun r' => r' = r ∧ Z) v) u) ?_ I _ (i_up I)
  intro f0 f1 f2 f3 f4 f5 ev wd md st wt de mv ld rs rd rl co le ss ds nx ct me dc kk N H C B Q P F Z hZ
  exact ⟨rfl, hZ⟩
theorem i_vc_takeEvents {k : Nat} {u : SX} {v : SY} (I : i_Rel k u v) (hk : k + 3 ≤ 1538) : wpX_takeEvents (fun r u' => wpY_takeEvents (fun r' v' => r' = r ∧ i_Rel (k + 3) u' v') v) u := by
  refine dm_el (Z := fun u v => wpX_takeEvents (fun r u' => wpY_takeEvents (fun r' v' => r' = r ∧ i_Rel (k + 3) u' v') v) u) ?_ I
  intro f0 f1 f2 f3 f4 f5 ev wd md st wt de mv ld rs rd rl co le ss ds nx ct me dc kk N H C B Q P F
  exact ⟨rfl, dm_mk F⟩
end
section
/-! ===== pending bytes, purely ===== -/
theorem dm_dv {L q p : Nat} (h : p < L) : (q * L + p) / L = q ∧ (q * L + p) % L = p := by
  constructor
  · rw [Nat.mul_comm, Nat.mul_add_div (by omega), Nat.div_eq_of_lt h, Nat.add_zero]
  · rw [Nat.mul_comm, Nat.mul_add_mod, Nat.mod_eq_of_lt h]
theorem dm_ad_qp {B : Nat → Nat} {c q p s : Nat} (h : p < dm_L B c) : dm_ad B c (q * dm_L B c + p) s = (B (8 * c + s) + q * dm_S B c s + p) % 256 := by
  unfold dm_ad
  rw [(dm_dv h).1, (dm_dv h).2]
def dm_pd (B Q P : Nat → Nat) (c x : Nat) : Prop := ∃ i, dm_K B Q P c ≤ i ∧ i < dm_T B c ∧ dm_ad B c i 2 = x
def dm_p0 (P : Nat → Nat) (c r : Nat) : Nat := if r = 0 then P c else 0
/-- row r (from the current one on) holds x -/
def dm_rp (B Q P : Nat → Nat) (c r x : Nat) : Prop := ∃ t, dm_p0 P c r ≤ t ∧ t < dm_L B c ∧ (B (8 * c + 2) + (Q c + r) * dm_S B c 2 + t) % 256 = x
theorem dm_pd_rp {B Q P : Nat → Nat} {c x : Nat} (hP : P c < dm_L B c) : dm_pd B Q P c x ↔ ∃ r, r < dm_R B c - Q c ∧ dm_rp B Q P c r x := by
  constructor
  · rintro ⟨i, h1, h2, h3⟩
    have hL : 0 < dm_L B c := by omega
    have em : dm_L B c * (i / dm_L B c) + i % dm_L B c = i := Nat.div_add_mod i (dm_L B c)
    have hm : i % dm_L B c < dm_L B c := Nat.mod_lt _ hL
    have hq : Q c ≤ i / dm_L B c := by
      rw [Nat.le_div_iff_mul_le hL]
      unfold dm_K at h1
      omega
    have hr : i / dm_L B c < dm_R B c := Nat.div_lt_of_lt_mul h2
    refine ⟨i / dm_L B c - Q c, by omega, i % dm_L B c, ?_, hm, ?_⟩
    · unfold dm_p0
      by_cases z : i / dm_L B c - Q c = 0
      · rw [if_pos z]
        have e : i / dm_L B c = Q c := by omega
        rw [e, Nat.mul_comm] at em
        unfold dm_K at h1
        omega
      · rw [if_neg z]; exact Nat.zero_le _
    · rw [← h3]
      unfold dm_ad
      rw [show Q c + (i / dm_L B c - Q c) = i / dm_L B c from by omega]
  · rintro ⟨r, h1, t, h2, h3, h4⟩
    refine ⟨(Q c + r) * dm_L B c + t, ?_, ?_, ?_⟩
    · unfold dm_K
      rw [Nat.add_mul]
      unfold dm_p0 at h2
      by_cases z : r = 0
      · rw [if_pos z] at h2; subst z; omega
      · have : dm_L B c ≤ r * dm_L B c := Nat.le_mul_of_pos_left _ (by omega)
        omega
    · unfold dm_T
      have a : (Q c + r + 1) * dm_L B c ≤ dm_R B c * dm_L B c := Nat.mul_le_mul_right _ (by omega)
      rw [Nat.add_mul _ 1, Nat.one_mul] at a
      rw [Nat.mul_comm (dm_L B c) (dm_R B c)]
      omega
    · rw [dm_ad_qp h3]; exact h4
/-- the way up from x to a row that begins at b -/
def dm_e (b x sz : Nat) : Nat := if (x + 256 - b) % 256 < sz then 0 else (b + 256 - x) % 256
theorem dm_e_lt (b x sz : Nat) : dm_e b x sz < 256 := by
  unfold dm_e
  by_cases h : (x + 256 - b) % 256 < sz
  · rw [if_pos h]; omega
  · rw [if_neg h]; omega
theorem dm_e_no {b x sz : Nat} (hb : b < 256) (hx : x < 256) (h2 : sz ≤ 255) {j t : Nat} (hj : j < dm_e b x sz) (ht : t < sz) : (b + t) % 256 ≠ (x + j) % 256 := by
  unfold dm_e at hj
  by_cases h : (x + 256 - b) % 256 < sz
  · rw [if_pos h] at hj; omega
  · rw [if_neg h] at hj; omega
theorem dm_e_0 {b x sz : Nat} (hb : b < 256) (hx : x < 256) (h1 : 1 ≤ sz) (h0 : dm_e b x sz = 0) : ∃ t, t < sz ∧ (b + t) % 256 = x := by
  unfold dm_e at h0
  by_cases h : (x + 256 - b) % 256 < sz
  · exact ⟨(x + 256 - b) % 256, h, by omega⟩
  · rw [if_neg h] at h0; omega
/-- what a way up says of the rows before r -/
def dm_ds (B Q P : Nat → Nat) (c x d r : Nat) : Prop := d ≤ 256 ∧ (∀ j, j < d → ∀ r', r' < r → ¬ dm_rp B Q P c r' ((x + j) % 256)) ∧ (d = 0 → ∃ r', r' < r ∧ dm_rp B Q P c r' x)
theorem dm_ds_0 (B Q P : Nat → Nat) (c x : Nat) : dm_ds B Q P c x 256 0 := ⟨Nat.le_refl _, fun _ _ r' h => by omega, fun h => by omega⟩
theorem dm_ds_s {B Q P : Nat → Nat} {c x d r : Nat} (hx : x < 256) (hL : dm_L B c < 256) (hp : dm_p0 P c r < dm_L B c) (h : dm_ds B Q P c x d r) :
    dm_ds B Q P c x (min d (dm_e ((B (8 * c + 2) + (Q c + r) * dm_S B c 2 + dm_p0 P c r) % 256) x (dm_L B c - dm_p0 P c r))) (r + 1) := by
  obtain ⟨h1, h2, h3⟩ := h
  have hb : (B (8 * c + 2) + (Q c + r) * dm_S B c 2 + dm_p0 P c r) % 256 < 256 := by omega
  refine ⟨by omega, ?_, ?_⟩
  · intro j hj r' hr'
    by_cases e : r' = r
    · subst e
      rintro ⟨t, t1, t2, t3⟩
      refine dm_e_no (sz := dm_L B c - dm_p0 P c r') (j := j) (t := t - dm_p0 P c r') hb hx (by omega) (by omega) (by omega) ?_
      rw [← t3]
      generalize B (8 * c + 2) + (Q c + r') * dm_S B c 2 = z
      omega
    · exact h2 j (by omega) r' (by omega)
  · intro h0
    by_cases e : d = 0
    · obtain ⟨r', a, b⟩ := h3 e
      exact ⟨r', by omega, b⟩
    · obtain ⟨t, a, b⟩ := dm_e_0 hb hx (by omega) (show dm_e ((B (8 * c + 2) + (Q c + r) * dm_S B c 2 + dm_p0 P c r) % 256) x (dm_L B c - dm_p0 P c r) = 0 from by omega)
      refine ⟨r, by omega, t + dm_p0 P c r, by omega, by omega, ?_⟩
      rw [← b]
      generalize B (8 * c + 2) + (Q c + r) * dm_S B c 2 = z
      omega
/-- counted channels, stalls -/
def dm_ct (ld st : Nat → Int32) (e : Nat) : Prop := ¬ ld e = 0 ∧ ∃ s, s < 8 ∧ st e = nI s ∧ dm_lv s = true
def dm_St (B Q P : Nat → Nat) (ld st : Nat → Int32) (c x : Nat) : Prop := ∃ e, e < c ∧ dm_ct ld st e ∧ dm_pd B Q P e x
def dm_Sd (B Q P : Nat → Nat) (ld st : Nat → Int32) (c : Nat) : Prop := st c = 1 ∧ ¬ ld c = 0 ∧ ¬ (nI (B (8 * c)) &&& 16) = 0 ∧ dm_St B Q P ld st c (dm_ad B c (dm_K B Q P c) 1)
def dm_Rd (B Q P : Nat → Nat) (ld st : Nat → Int32) (c : Nat) : Prop := st c = 1 ∧ ¬ dm_Sd B Q P ld st c
theorem dm_ad_lt (B : Nat → Nat) (c i s : Nat) : dm_ad B c i s < 256 := Nat.mod_lt _ (by decide)
theorem dm_ad_K {B Q P : Nat → Nat} {c s : Nat} (h : P c < dm_L B c) : dm_ad B c (dm_K B Q P c) s = (B (8 * c + s) + Q c * dm_S B c s + P c) % 256 := dm_ad_qp h
theorem dm_S_lt {B : Nat → Nat} {c s : Nat} (h : ∀ i, i < 32 → B i < 256) (hc : c < 4) (hs : s < 4) : dm_S B c s < 256 := by
  unfold dm_S
  by_cases z : B (8 * c) % 4 = 1
  · rw [if_pos z]; omega
  · rw [if_neg z]; exact h _ (by omega)
theorem dm_R_lt (B : Nat → Nat) (c : Nat) : dm_R B c < 8 := by
  unfold dm_R
  by_cases z : B (8 * c) % 4 = 1
  · rw [if_pos z]; omega
  · rw [if_neg z]; omega
theorem dm_T_lt {B : Nat → Nat} {c : Nat} (h : dm_L B c < 256) : dm_T B c ≤ 1785 := by
  unfold dm_T
  have := dm_R_lt B c
  exact Nat.mul_le_mul (show dm_L B c ≤ 255 from by omega) (show dm_R B c ≤ 7 from by omega)
theorem dm_K_T {B Q P : Nat → Nat} {c : Nat} (hP : P c < dm_L B c) (hQ : Q c < dm_R B c) : dm_K B Q P c < dm_T B c := by
  unfold dm_K dm_T
  have a : (Q c + 1) * dm_L B c ≤ dm_R B c * dm_L B c := Nat.mul_le_mul_right _ (by omega)
  rw [Nat.add_mul _ 1, Nat.one_mul] at a
  rw [Nat.mul_comm (dm_L B c) (dm_R B c)]
  omega
end
section
/-! ===== the component: distances, stalls ===== -/
section
variable {f0 f1 f2 f3 f4 f5 nn ho cr ev : Int32} {wd md st wt de mv ld rs rd rl co le ss ds nx ct me dc kk : Nat → Int32} {N H C : Nat} {B Q P : Nat → Nat} {c x : Nat}
theorem dm_xmin {post : Int32 → Prop} {a b : Nat} (ha : a < 2 ^ 31) (hb : b < 2 ^ 31) (h : post (nI (min a b))) : wpX_smaller post (f0, f1, f2, f3, f4, f5, nn, ho, cr, ev, wd, md, st, wt, de, mv, ld, rs, rd, rl, co, le, ss, ds, nx, ct) (nI a) (nI b) := by
  refine pk_le b a (fun z => ?_) (fun z => ?_)
  · rw [Nat.min_eq_right z] at h; exact h
  · rw [Nat.min_eq_left (by omega)] at h; exact h
theorem dm_xsrc {post : Int32 → Prop} (hc : c < 4) (hP : P c < dm_L B c) (hX : dm_CX B Q P rs rd rl co le ss ds nx ct c) (h : post (nI (dm_ad B c (dm_K B Q P c) 1))) : wpX_sourceOf post (f0, f1, f2, f3, f4, f5, nn, ho, cr, ev, wd, md, st, wt, de, mv, ld, rs, rd, rl, co, le, ss, ds, nx, ct) (nI c) := by
  have v4 : vp_in (nI c) 4 := vp_in_nI hc (by decide)
  refine ⟨v4, v4, ?_⟩
  rw [nI_clamp (by omega), hX.1, hX.2.2.2.1, nI_add, dm_a255]
  rw [dm_ad_K hP] at h
  generalize B (8 * c + 1) + Q c * dm_S B c 1 = z at h ⊢
  rw [Nat.mod_add_mod]
  exact h
theorem dm_xdst {post : Int32 → Prop} (hc : c < 4) (hP : P c < dm_L B c) (hX : dm_CX B Q P rs rd rl co le ss ds nx ct c) (h : post (nI (dm_ad B c (dm_K B Q P c) 2))) : wpX_destOf post (f0, f1, f2, f3, f4, f5, nn, ho, cr, ev, wd, md, st, wt, de, mv, ld, rs, rd, rl, co, le, ss, ds, nx, ct) (nI c) := by
  have v4 : vp_in (nI c) 4 := vp_in_nI hc (by decide)
  refine ⟨v4, v4, ?_⟩
  rw [nI_clamp (by omega), hX.2.1, hX.2.2.2.1, nI_add, dm_a255]
  rw [dm_ad_K hP] at h
  generalize B (8 * c + 2) + Q c * dm_S B c 2 = z at h ⊢
  rw [Nat.mod_add_mod]
  exact h
theorem dm_x37 {post : Int32 → Prop} (hc : c < 4) (hx : x < 256) (hL : dm_L B c < 256) (hP : P c < dm_L B c) (hQ : Q c < dm_R B c) (hX : dm_CX B Q P rs rd rl co le ss ds nx ct c)
    (h : ∀ d, dm_ds B Q P c x d (dm_R B c - Q c) → post (nI d)) :
    ∀ m r d z b sz, r + m = dm_R B c - Q c → dm_ds B Q P c x d r → z = (B (8 * c + 2) + (Q c + r) * dm_S B c 2) % 256 → b = (B (8 * c + 2) + (Q c + r) * dm_S B c 2 + dm_p0 P c r) % 256 → sz = dm_L B c - dm_p0 P c r →
      wX_distanceToPending_37 post (nI c) (nI x) f0 f1 f2 f3 f4 f5 nn ho cr ev wd md st wt de mv ld rs rd rl co le ss ds nx ct (m + 1) (nI d) (nI z) (nI b) (nI sz) (nI r) := by
  have v4 : vp_in (nI c) 4 := vp_in_nI hc (by decide)
  have hR := dm_R_lt B c
  have ecl : (nI c).toNatClampNeg = c := nI_clamp (by omega)
  intro m
  induction m with
  | zero =>
    intro r d z b sz hr hd hz hb hs
    have e : r = dm_R B c - Q c := by omega
    subst e
    refine ⟨v4, ?_⟩
    rw [ecl, hX.2.2.1]
    exact br_t (nI_le (Nat.le_refl _) (by omega)) (h d hd)
  | succ m ih =>
    intro r d z b sz hr hd hz hb hs
    refine ⟨v4, ?_⟩
    rw [ecl, hX.2.2.1]
    have hp : dm_p0 P c r < dm_L B c := by
      unfold dm_p0
      by_cases q : r = 0
      · rw [if_pos q]; exact hP
      · rw [if_neg q]; omega
    refine br_f (nI_ge (by omega) (by omega)) ?_
    have b256 : b < 256 := by rw [hb]; omega
    have K : wX_distanceToPending_85 post (wX_distanceToPending_37 post (nI c) (nI x) f0 f1 f2 f3 f4 f5 nn ho cr ev wd md st wt de mv ld rs rd rl co le ss ds nx ct (m + 1)) (nI c) (nI x) (nI d) (nI z) (nI r) (nI (dm_e b x sz)) f0 f1 f2 f3 f4 f5 nn ho cr ev wd md st wt de mv ld rs rd rl co le ss ds nx ct := by
      have he := dm_e_lt b x sz
      unfold wX_distanceToPending_85
      refine dm_xmin (by have := hd.1; omega) (by omega) ⟨v4, ?_⟩
      rw [ecl, hX.2.2.2.2.2.2.1]
      refine nm_r (e' := nI ((B (8 * c + 2) + (Q c + (r + 1)) * dm_S B c 2) % 256)) ?_ ⟨v4, ?_⟩
      · have em : (Q c + (r + 1)) * dm_S B c 2 = (Q c + r) * dm_S B c 2 + dm_S B c 2 := by rw [← Nat.add_assoc, Nat.add_mul (Q c + r) 1, Nat.one_mul]
        rw [nI_add, dm_a255, hz, Nat.mod_add_mod, em, ← Nat.add_assoc (B (8 * c + 2))]
      rw [hX.2.2.2.2.1]
      refine nm_e (nm_r (nI_1 r) ?_)
      refine ih (r + 1) _ _ _ _ (by omega) ?_ rfl ?_ ?_
      · rw [hb, hs]; exact dm_ds_s hx hL hp hd
      · unfold dm_p0; rw [if_neg (by omega)]; rfl
      · unfold dm_p0; rw [if_neg (by omega), Nat.sub_zero]
    rw [dm_sub255 (by omega)]
    refine pk_le sz ((x + 256 - b) % 256) (fun g => ?_) (fun g => ?_)
    · refine br_t rfl ?_
      rw [dm_sub255 (by omega)]
      have ee : dm_e b x sz = (b + 256 - x) % 256 := by unfold dm_e; rw [if_neg (by omega)]
      rw [ee] at K
      exact K
    · refine br_f (by decide) ?_
      have ee : dm_e b x sz = 0 := by unfold dm_e; rw [if_pos g]
      rw [ee] at K
      exact K
theorem dm_xdist {post : Int32 → Prop} (hc : c < 4) (hx : x < 256) (hL : dm_L B c < 256) (hP : P c < dm_L B c) (hQ : Q c < dm_R B c) (hX : dm_CX B Q P rs rd rl co le ss ds nx ct c)
    (h : ∀ d, d ≤ 256 → (∀ j, j < d → ¬ dm_pd B Q P c ((x + j) % 256)) → (d = 0 → dm_pd B Q P c x) → post (nI d)) : wpX_distanceToPending post (f0, f1, f2, f3, f4, f5, nn, ho, cr, ev, wd, md, st, wt, de, mv, ld, rs, rd, rl, co, le, ss, ds, nx, ct) (nI c) (nI x) := by
  have v4 : vp_in (nI c) 4 := vp_in_nI hc (by decide)
  have ecl : (nI c).toNatClampNeg = c := nI_clamp (by omega)
  unfold wpX_distanceToPending
  refine ⟨v4, ?_⟩
  rw [ecl, hX.2.1]
  refine nm_e ?_
  refine dm_xdst hc hP hX ⟨v4, v4, ?_⟩
  rw [hX.2.2.2.1, hX.2.2.2.2.1, pk_sub (by omega)]
  refine nm_e ⟨dm_R B c - Q c + 1, ?_⟩
  refine dm_x37 hc hx hL hP hQ hX ?_ (dm_R B c - Q c) 0 256 _ _ _ (by omega) (dm_ds_0 B Q P c x) ?_ ?_ ?_
  · intro d hd
    refine h d hd.1 (fun j hj z => ?_) (fun z => (dm_pd_rp hP).mpr (hd.2.2 z))
    obtain ⟨r, a, b⟩ := (dm_pd_rp hP).mp z
    exact hd.2.1 j hj r a b
  · rw [Nat.add_zero (Q c)]
  · rw [Nat.add_zero (Q c), dm_ad_K hP]; rfl
  · rfl
theorem dm_x13 {post : Int32 → Prop} (hc : c < 4) (hx : x < 256) (hB : dm_FB B Q P ld) (hX : dm_FX B Q P ld rs rd rl co le ss ds nx ct) (hS : ∀ e, e < 4 → ∃ s, s < 8 ∧ st e = nI s)
    (h : ∀ d, d ≤ 256 → (∀ j, j < d → ¬ dm_St B Q P ld st c ((x + j) % 256)) → (d = 0 → dm_St B Q P ld st c x) → post (nI d)) :
    ∀ m e d, e + m = c → d ≤ 256 → (∀ j, j < d → ¬ dm_St B Q P ld st e ((x + j) % 256)) → (d = 0 → dm_St B Q P ld st e x) → wX_clearAhead_13 post (nI c) (nI x) f0 f1 f2 f3 f4 f5 nn ho cr ev wd md st wt de mv ld rs rd rl co le ss ds nx ct (m + 1) (nI d) (nI e) := by
  intro m
  induction m with
  | zero =>
    intro e d he h1 h2 h3
    have ee : e = c := by omega
    subst ee
    exact br_t (nI_le (Nat.le_refl _) (by omega)) (h d h1 h2 h3)
  | succ m ih =>
    intro e d he h1 h2 h3
    have ecl : (nI e).toNatClampNeg = e := nI_clamp (by omega)
    refine br_f (nI_ge (by omega) (by omega)) ⟨vp_in_nI (by omega) (by decide), ?_⟩
    rw [ecl]
    have skip : ¬ dm_ct ld st e → wX_clearAhead_13 post (nI c) (nI x) f0 f1 f2 f3 f4 f5 nn ho cr ev wd md st wt de mv ld rs rd rl co le ss ds nx ct (m + 1) (nI d) (nI (e + 1)) := by
      intro nc
      refine ih (e + 1) d (by omega) h1 ?_ ?_
      · rintro j hj ⟨e', a1, a2, a3⟩
        by_cases q : e' = e
        · subst q; exact nc a2
        · exact h2 j hj ⟨e', by omega, a2, a3⟩
      · intro z
        obtain ⟨e', a1, a2⟩ := h3 z
        exact ⟨e', by omega, a2⟩
    refine br_c (fun l0 => nm_r (nI_1 e) (skip (fun z => z.1 l0))) (fun l1 => ?_)
    obtain ⟨s, s8, es⟩ := hS e (by omega)
    refine dm_xLive (by omega) es s8 ?_ ?_
    · intro lv
      refine br_f (by decide) ?_
      have hb := hB.2 e (by omega) l1
      refine dm_xdist (by omega) hx (hB.1 _ (by omega)) hb.1 hb.2 (hX e (by omega) l1) ?_
      intro d' k1 k2 k3
      refine dm_xmin (by omega) (by omega) (nm_r (nI_1 e) ?_)
      refine ih (e + 1) _ (by omega) (by omega) ?_ ?_
      · rintro j hj ⟨e', a1, a2, a3⟩
        by_cases q : e' = e
        · subst q; exact k2 j (by omega) a3
        · exact h2 j (by omega) ⟨e', by omega, a2, a3⟩
      · intro z
        by_cases q : d = 0
        · obtain ⟨e', a1, a2⟩ := h3 q
          exact ⟨e', by omega, a2⟩
        · exact ⟨e, by omega, ⟨l1, s, s8, es, lv⟩, k3 (by omega)⟩
    · intro lv
      refine br_t rfl (nm_r (nI_1 e) (skip ?_))
      rintro ⟨_, s', s8', es', lv'⟩
      rw [es, nI_eq (by omega) (by omega)] at es'
      subst es'
      rw [lv] at lv'
      exact absurd lv' (by decide)
theorem dm_xclear {post : Int32 → Prop} (hc : c < 4) (l1 : ¬ ld c = 0) (hB : dm_FB B Q P ld) (hX : dm_FX B Q P ld rs rd rl co le ss ds nx ct) (hS : ∀ e, e < 4 → ∃ s, s < 8 ∧ st e = nI s)
    (h : ∀ d, d ≤ 256 → (∀ j, j < d → ¬ dm_St B Q P ld st c ((dm_ad B c (dm_K B Q P c) 1 + j) % 256)) → (d = 0 → dm_St B Q P ld st c (dm_ad B c (dm_K B Q P c) 1)) → post (nI d)) : wpX_clearAhead post (f0, f1, f2, f3, f4, f5, nn, ho, cr, ev, wd, md, st, wt, de, mv, ld, rs, rd, rl, co, le, ss, ds, nx, ct) (nI c) := by
  unfold wpX_clearAhead
  have hb := hB.2 c hc l1
  refine dm_xsrc hc hb.1 (hX c hc l1) ⟨c + 1, ?_⟩
  refine dm_x13 hc (dm_ad_lt _ _ _ _) hB hX hS h c 0 256 (by omega) (by omega) ?_ ?_
  · rintro j hj ⟨e, a, _⟩; omega
  · intro z; omega
theorem dm_xstalled {post : Int32 → Prop} (hc : c < 4) (hB : dm_FB B Q P ld) (hX : dm_FX B Q P ld rs rd rl co le ss ds nx ct) (hS : ∀ e, e < 4 → ∃ s, s < 8 ∧ st e = nI s)
    (h1 : dm_Sd B Q P ld st c → post 1) (h0 : ¬ dm_Sd B Q P ld st c → post 0) : wpX_isStalled post (f0, f1, f2, f3, f4, f5, nn, ho, cr, ev, wd, md, st, wt, de, mv, ld, rs, rd, rl, co, le, ss, ds, nx, ct) (nI c) := by
  have v4 : vp_in (nI c) 4 := vp_in_nI hc (by decide)
  have ecl : (nI c).toNatClampNeg = c := nI_clamp (by omega)
  unfold wpX_isStalled
  refine ⟨v4, ?_⟩
  rw [ecl]
  refine br_c (fun a1 => ⟨v4, br_c (fun a2 => h0 (fun z => z.2.1 a2)) (fun a2 => ?_)⟩) (fun a1 => h0 (fun z => a1 z.1))
  refine ⟨v4, ?_⟩
  rw [ecl, (hX c hc a2).2.2.2.2.2.2.2.2]
  refine br_c (fun a3 => br_t rfl (h0 (fun z => z.2.2.1 a3))) (fun a3 => br_f (by decide) ?_)
  refine dm_xclear hc a2 hB hX hS ?_
  intro d k1 k2 k3
  refine pk_eq d 0 (fun z => h1 ⟨a1, a2, a3, k3 z⟩) (fun z => h0 (fun y => ?_))
  have := k2 0 (by omega)
  rw [Nat.add_zero, Nat.mod_eq_of_lt (dm_ad_lt _ _ _ _)] at this
  exact this y.2.2.2
theorem dm_xready {post : Int32 → Prop} (hc : c < 4) (hB : dm_FB B Q P ld) (hX : dm_FX B Q P ld rs rd rl co le ss ds nx ct) (hS : ∀ e, e < 4 → ∃ s, s < 8 ∧ st e = nI s)
    (h1 : dm_Rd B Q P ld st c → post 1) (h0 : ¬ dm_Rd B Q P ld st c → post 0) : wpX_isReady post (f0, f1, f2, f3, f4, f5, nn, ho, cr, ev, wd, md, st, wt, de, mv, ld, rs, rd, rl, co, le, ss, ds, nx, ct) (nI c) := by
  have v4 : vp_in (nI c) 4 := vp_in_nI hc (by decide)
  have ecl : (nI c).toNatClampNeg = c := nI_clamp (by omega)
  unfold wpX_isReady
  refine ⟨v4, ?_⟩
  rw [ecl]
  refine br_c (fun a1 => ?_) (fun a1 => h0 (fun z => a1 z.1))
  exact dm_xstalled hc hB hX hS (fun z => br_f (by decide) (h0 (fun y => y.2 z))) (fun z => br_t rfl (h1 ⟨a1, z⟩))
end
end
section
/-! ===== the reference: addresses, stalls ===== -/
section
variable {f0 f1 f2 f3 f4 f5 nn ho cr ev : Int32} {wd md st wt de mv ld rs rd rl co le ss ds nx ct me dc kk : Nat → Int32} {N H C : Nat} {B Q P : Nat → Nat} {c x : Nat}
theorem dm_8 (c : Nat) : (8 : Int32) * nI c = nI (8 * c) := pk_mul 8 c
theorem dm_yadr {post : Int32 → Prop} {i s : Nat} (hc : c < 4) (hs : s < 4) (hi : i < 2 ^ 31) (hb : ∀ i, i < 32 → B i < 256) (hd : ∀ i, i < 32 → dc i = nI (B i)) (hL : 0 < dm_L B c)
    (h : post (nI (dm_ad B c i s))) : wpY_address post (nn, ho, cr, ev, me, md, st, wt, de, mv, ld, dc, kk) (nI c) (nI i) (nI s) := by
  have e3 : (8 : Int32) * nI c + 3 = nI (8 * c + 3) := by rw [dm_8]; exact nI_add (8 * c) 3
  have e4s : (8 : Int32) * nI c + 4 + nI s = nI (8 * c + 4 + s) := by rw [dm_8, ← nI_add, ← nI_add]; rfl
  have es : (8 : Int32) * nI c + nI s = nI (8 * c + s) := by rw [dm_8, nI_add]
  have hLb : dm_L B c < 256 := hb _ (by omega)
  have fin : ∀ z, z = dm_S B c s → wY_address_52 post (nI c) (nI i) (nI s) (nI (dm_L B c)) (nI z) nn ho cr ev me md st wt de mv ld dc kk := by
    intro z hz
    unfold wY_address_52
    rw [es, nI_clamp (by omega), hd _ (by omega)]
    refine ⟨vp_in_nI (by omega) (by decide), nI_ne0 hL (by omega), nI_ne0 hL (by omega), ?_⟩
    rw [pk_rem hi hL (by omega), pk_div hi hL (by omega), pk_mul, nI_add, nI_add, dm_a255, hz]
    exact h
  unfold wpY_address
  dsimp only
  rw [e3, nI_clamp (by omega), hd _ (by omega)]
  refine ⟨vp_in_nI (by omega) (by decide), nm_e (br_f (nI_ne0 (n := dm_L B c) hL (by omega)) ?_)⟩
  rw [dm_8, nI_clamp (by omega), hd _ (by omega), dm_a3]
  refine ⟨vp_in_nI (by omega) (by decide), pk_eq (B (8 * c) % 4) 1 (fun z => ?_) (fun z => ?_)⟩
  · refine fin 0 ?_
    unfold dm_S; rw [if_pos z]
  · rw [← dm_8, e4s, nI_clamp (by omega), hd _ (by omega)]
    refine ⟨vp_in_nI (by omega) (by decide), fin _ ?_⟩
    unfold dm_S; rw [if_neg z]
theorem dm_ytotal {post : Int32 → Prop} (hc : c < 4) (hd : ∀ i, i < 32 → dc i = nI (B i)) (h : post (nI (dm_T B c))) : wpY_total post (nn, ho, cr, ev, me, md, st, wt, de, mv, ld, dc, kk) (nI c) := by
  have e3 : (8 : Int32) * nI c + 3 = nI (8 * c + 3) := by rw [dm_8]; exact nI_add (8 * c) 3
  have e4 : (8 : Int32) * nI c + 4 = nI (8 * c + 4) := by rw [dm_8]; exact nI_add (8 * c) 4
  unfold wpY_total
  dsimp only
  rw [e3, e4, dm_8, nI_clamp (n := 8 * c + 3) (by omega), nI_clamp (n := 8 * c) (by omega), nI_clamp (n := 8 * c + 4) (by omega), hd (8 * c + 3) (by omega), hd (8 * c) (by omega), hd (8 * c + 4) (by omega), dm_a3, dm_a7]
  refine ⟨vp_in_nI (by omega) (by decide), vp_in_nI (by omega) (by decide), ?_⟩
  unfold dm_T dm_R dm_L at h
  refine pk_eq (B (8 * c) % 4) 1 (fun z => ?_) (fun z => ⟨vp_in_nI (by omega) (by decide), ?_⟩)
  · rw [if_pos z, ← pk_mul] at h; exact h
  · rw [if_neg z, ← pk_mul] at h; exact h
theorem dm_y125 {post : Int32 → Prop} {J : Int32 → Prop} {z : Int32} (hc : c < 4) (hb : ∀ i, i < 32 → B i < 256) (hd : ∀ i, i < 32 → dc i = nI (B i)) (hL : 0 < dm_L B c) (hx : x < 256) :
    ∀ m i, i + m = dm_T B c → ((∃ i', i ≤ i' ∧ i' < dm_T B c ∧ dm_ad B c i' 2 = x) → post 1) → ((¬ ∃ i', i ≤ i' ∧ i' < dm_T B c ∧ dm_ad B c i' 2 = x) → J (nI (c + 1))) →
      wY_stalled_125 post J z (nI x) (nI c) (nI (dm_T B c)) nn ho cr ev me md st wt de mv ld dc kk (m + 1) (nI i) := by
  have hT := dm_T_lt (B := B) (c := c) (hb _ (by omega))
  intro m
  induction m with
  | zero =>
    intro i hi h1 h0
    exact br_t (nI_le (by omega) (by omega)) (nm_r (nI_1 c) (h0 (fun ⟨i', a, b, _⟩ => by omega)))
  | succ m ih =>
    intro i hi h1 h0
    refine br_f (nI_ge (by omega) (by omega)) ?_
    refine dm_yadr (s := 2) hc (by decide) (by omega) hb hd hL ?_
    have ha := dm_ad_lt B c i 2
    refine pk_eq (dm_ad B c i 2) x (fun e => h1 ⟨i, Nat.le_refl _, by omega, e⟩) (fun e => nm_r (nI_1 i) ?_)
    refine ih (i + 1) (by omega) ?_ ?_
    · rintro ⟨i', a, b⟩
      exact h1 ⟨i', by omega, b⟩
    · intro n
      refine h0 (fun ⟨i', a, b, d⟩ => n ⟨i', ?_, b, d⟩)
      have : i' ≠ i := fun q => e (by rw [← q]; exact d)
      omega
theorem dm_y51 {post : Int32 → Prop} (hc : c < 4) (hB : dm_FB B Q P ld) (hY : dm_FY B Q P ld dc kk) (hS : ∀ e, e < 4 → ∃ s, s < 8 ∧ st e = nI s) (hx : x < 256) :
    ∀ m e, e + m = c → ((∃ e', e ≤ e' ∧ e' < c ∧ dm_ct ld st e' ∧ dm_pd B Q P e' x) → post 1) → ((¬ ∃ e', e ≤ e' ∧ e' < c ∧ dm_ct ld st e' ∧ dm_pd B Q P e' x) → post 0) →
      wY_stalled_51 post (nI c) (nI x) nn ho cr ev me md st wt de mv ld dc kk (m + 1) (nI e) := by
  intro m
  induction m with
  | zero =>
    intro e he h1 h0
    exact br_t (nI_le (by omega) (by omega)) (h0 (fun ⟨e', a, b, _⟩ => by omega))
  | succ m ih =>
    intro e he h1 h0
    have ecl : (nI e).toNatClampNeg = e := nI_clamp (by omega)
    have v4 : vp_in (nI e) 4 := vp_in_nI (by omega) (by decide)
    have go : ¬ (dm_ct ld st e ∧ dm_pd B Q P e x) → wY_stalled_51 post (nI c) (nI x) nn ho cr ev me md st wt de mv ld dc kk (m + 1) (nI (e + 1)) := by
      intro ne
      refine ih (e + 1) (by omega) ?_ ?_
      · rintro ⟨e', a, b⟩
        exact h1 ⟨e', by omega, b⟩
      · intro n
        refine h0 (fun ⟨e', a, b, d⟩ => n ⟨e', ?_, b, d⟩)
        have : e' ≠ e := fun q => ne (by rw [← q]; exact d)
        omega
    have skip : ¬ dm_ct ld st e → wY_stalled_98 post (wY_stalled_51 post (nI c) (nI x) nn ho cr ev me md st wt de mv ld dc kk (m + 1)) (nI c) (nI x) (nI e) nn ho cr ev me md st wt de mv ld dc kk := by
      intro nc
      unfold wY_stalled_98 wY_stalled_99
      obtain ⟨k0, hk0, ek⟩ := hY.2.1 e (by omega)
      refine br_t rfl ⟨v4, ?_⟩
      rw [ecl, ek]
      refine nm_e ⟨1, ?_⟩
      exact br_t (nI_pos' (by omega)) (nm_r (nI_1 e) (go (fun q => nc q.1)))
    refine br_f (nI_ge (by omega) (by omega)) ⟨v4, ?_⟩
    rw [ecl]
    obtain ⟨s, s8, es⟩ := hS e (by omega)
    have lvs : ¬ s = 0 → ¬ s = 3 → ¬ s = 4 → dm_lv s = true := by
      intro a b d
      have : s = 1 ∨ s = 2 ∨ s = 5 ∨ s = 6 ∨ s = 7 := by omega
      rcases this with rfl | rfl | rfl | rfl | rfl <;> rfl
    have nlv : (s = 0 ∨ s = 3 ∨ s = 4) → ¬ dm_ct ld st e := by
      rintro a ⟨_, s', b, d, l⟩
      rw [es, nI_eq (by omega) (by omega)] at d
      subst d
      rcases a with rfl | rfl | rfl <;> exact absurd l (by decide)
    rw [es]
    refine br_c (fun l0 => skip (fun z => z.1 l0)) (fun l1 => ⟨v4, ?_⟩)
    refine pk_eq s 0 (fun a => skip (nlv (Or.inl a))) (fun a => ⟨v4, ?_⟩)
    refine pk_eq s 3 (fun b => skip (nlv (Or.inr (Or.inl b)))) (fun b => ⟨v4, ?_⟩)
    refine pk_eq s 4 (fun d => skip (nlv (Or.inr (Or.inr d)))) (fun d => ?_)
    have hct : dm_ct ld st e := ⟨l1, s, s8, es, lvs a b d⟩
    have hb := hB.2 e (by omega) l1
    unfold wY_stalled_99
    refine br_f (by decide) ?_
    refine dm_ytotal (by omega) hY.1 ⟨v4, ?_⟩
    rw [ecl, hY.2.2 e (by omega) l1]
    refine nm_e ⟨dm_T B e - dm_K B Q P e + 1, ?_⟩
    have hKT := dm_K_T hb.1 hb.2
    refine dm_y125 (by omega) hB.1 hY.1 (by omega) hx (dm_T B e - dm_K B Q P e) (dm_K B Q P e) (by omega) ?_ ?_
    · intro q
      exact h1 ⟨e, Nat.le_refl _, by omega, hct, q⟩
    · intro q
      exact go (fun y => q y.2)
theorem dm_ystalled {post : Int32 → Prop} (hc : c < 4) (hB : dm_FB B Q P ld) (hY : dm_FY B Q P ld dc kk) (hS : ∀ e, e < 4 → ∃ s, s < 8 ∧ st e = nI s)
    (h1 : dm_Sd B Q P ld st c → post 1) (h0 : ¬ dm_Sd B Q P ld st c → post 0) : wpY_stalled post (nn, ho, cr, ev, me, md, st, wt, de, mv, ld, dc, kk) (nI c) := by
  have v4 : vp_in (nI c) 4 := vp_in_nI hc (by decide)
  have ecl : (nI c).toNatClampNeg = c := nI_clamp (by omega)
  unfold wpY_stalled
  refine ⟨v4, ?_⟩
  rw [ecl, dm_8, nI_clamp (n := 8 * c) (by omega), hY.1 (8 * c) (by omega)]
  refine br_c (fun a1 => ⟨v4, br_c (fun a2 => h0 (fun z => z.2.1 a2)) (fun a2 => ⟨vp_in_nI (by omega) (by decide), br_c (fun a3 => h0 (fun z => z.2.2.1 a3)) (fun a3 => ⟨v4, ?_⟩)⟩)⟩) (fun a1 => h0 (fun z => a1 z.1))
  rw [hY.2.2 c hc a2]
  have hb := hB.2 c hc a2
  have hKT := dm_K_T hb.1 hb.2
  have hT := dm_T_lt (B := B) (c := c) (hB.1 _ (by omega))
  refine dm_yadr (s := 1) hc (by decide) (by omega) hB.1 hY.1 (by omega) ⟨c + 1, ?_⟩
  refine dm_y51 hc hB hY hS (dm_ad_lt _ _ _ _) c 0 (by omega) ?_ ?_
  · rintro ⟨e, _, a, b⟩
    exact h1 ⟨a1, a2, a3, e, a, b⟩
  · intro n
    refine h0 (fun z => n ?_)
    obtain ⟨e, a, b⟩ := z.2.2.2
    exact ⟨e, Nat.zero_le _, a, b⟩
theorem dm_yready {post : Int32 → Prop} (hc : c < 4) (hB : dm_FB B Q P ld) (hY : dm_FY B Q P ld dc kk) (hS : ∀ e, e < 4 → ∃ s, s < 8 ∧ st e = nI s)
    (h1 : dm_Rd B Q P ld st c → post 1) (h0 : ¬ dm_Rd B Q P ld st c → post 0) : wpY_ready post (nn, ho, cr, ev, me, md, st, wt, de, mv, ld, dc, kk) (nI c) := by
  have v4 : vp_in (nI c) 4 := vp_in_nI hc (by decide)
  have ecl : (nI c).toNatClampNeg = c := nI_clamp (by omega)
  unfold wpY_ready
  refine ⟨v4, ?_⟩
  rw [ecl]
  refine br_c (fun a1 => ?_) (fun a1 => h0 (fun z => a1 z.1))
  exact dm_ystalled hc hB hY hS (fun z => br_f (by decide) (h0 (fun y => y.2 z))) (fun z => br_t rfl (h1 ⟨a1, z⟩))
end
end
section
/-! ===== registers (written by genreg.py) ===== -/
section
variable {f0 f1 f2 f3 f4 f5 nn ho cr ev : Int32} {wd md st wt de mv ld rs rd rl co le ss ds nx ct me dc kk : Nat → Int32} {N H C : Nat} {B Q P : Nat → Nat} {c : Nat}
theorem dm_xr0 {post : Int32 → Prop} (hc : c < N) (hN : N ≤ 4) (h0 : ld c = 0 → post 0) (h1 : ¬ ld c = 0 → wpX_loadedRegister (fun r => post r) (f0, f1, f2, f3, f4, f5, nI N, ho, cr, ev, wd, md, st, wt, de, mv, ld, rs, rd, rl, co, le, ss, ds, nx, ct) (nI c) (nI 0)) : wpX_register post (f0, f1, f2, f3, f4, f5, nI N, ho, cr, ev, wd, md, st, wt, de, mv, ld, rs, rd, rl, co, le, ss, ds, nx, ct) (nI c) (nI 0) := by
  have ecl : (nI c).toNatClampNeg = c := nI_clamp (by omega)
  unfold wpX_register
  refine dm_xch hc hN (br_f (by decide) (br_f (by decide) (br_t (by decide) (br_t (by decide) ?_))))
  unfold wX_register_138
  rw [ecl]
  exact ⟨vp_in_nI (by omega) (by decide), br_c h0 h1⟩
theorem dm_yr0 {post : Int32 → Prop} {l : Nat} (hc : c < N) (hN : N ≤ 4) (hl : dc (8 * c + 3) = nI l) (hl2 : l < 256) (h0 : ld c = 0 → post 0) (h1 : ¬ ld c = 0 → 0 < l ∧ (wpY_total (fun r => vp_in (nI c) 4 ∧ post (r - kk c)) (nI N, ho, cr, ev, me, md, st, wt, de, mv, ld, dc, kk) (nI c))) : wpY_register post (nI N, ho, cr, ev, me, md, st, wt, de, mv, ld, dc, kk) (nI c) (nI 0) := by
  have ecl : (nI c).toNatClampNeg = c := nI_clamp (by omega)
  have v4 : vp_in (nI c) 4 := vp_in_nI (by omega) (by decide)
  have e3 : (8 : Int32) * nI c + 3 = nI (8 * c + 3) := by rw [dm_8]; exact nI_add (8 * c) 3
  unfold wpY_register
  refine dm_ych hc hN (br_f (by decide) (br_t (by decide) (br_f (by decide) (br_f (by decide) (br_f (by decide) (br_f (by decide) (br_f (by decide) ?_)))))))
  refine ⟨by rw [e3]; exact vp_in_nI (by omega) (by decide), ?_⟩
  rw [e3, nI_clamp (n := 8 * c + 3) (by omega), hl]
  refine nm_e ⟨v4, ?_⟩
  rw [ecl]
  refine br_c h0 (fun z => ?_)
  obtain ⟨l0, K⟩ := h1 z
  refine br_f (nI_ne0 l0 (by omega)) ?_
  exact (br_t (by decide) K)
theorem dm_xr4 {post : Int32 → Prop} (hc : c < N) (hN : N ≤ 4) (h0 : ld c = 0 → post 0) (h1 : ¬ ld c = 0 → wpX_loadedRegister (fun r => post r) (f0, f1, f2, f3, f4, f5, nI N, ho, cr, ev, wd, md, st, wt, de, mv, ld, rs, rd, rl, co, le, ss, ds, nx, ct) (nI c) (nI 4)) : wpX_register post (f0, f1, f2, f3, f4, f5, nI N, ho, cr, ev, wd, md, st, wt, de, mv, ld, rs, rd, rl, co, le, ss, ds, nx, ct) (nI c) (nI 4) := by
  have ecl : (nI c).toNatClampNeg = c := nI_clamp (by omega)
  unfold wpX_register
  refine dm_xch hc hN (br_f (by decide) (br_f (by decide) (br_t (by decide) (br_f (by decide) (br_f (by decide) (br_f (by decide) (br_f (by decide) (br_f (by decide) (br_t (by decide) ?_)))))))))
  unfold wX_register_138
  rw [ecl]
  exact ⟨vp_in_nI (by omega) (by decide), br_c h0 h1⟩
theorem dm_yr4 {post : Int32 → Prop} {l : Nat} (hc : c < N) (hN : N ≤ 4) (hl : dc (8 * c + 3) = nI l) (hl2 : l < 256) (h0 : ld c = 0 → post 0) (h1 : ¬ ld c = 0 → 0 < l ∧ (wpY_address (fun r => post r) (nI N, ho, cr, ev, me, md, st, wt, de, mv, ld, dc, kk) (nI c) (kk c) 1)) : wpY_register post (nI N, ho, cr, ev, me, md, st, wt, de, mv, ld, dc, kk) (nI c) (nI 4) := by
  have ecl : (nI c).toNatClampNeg = c := nI_clamp (by omega)
  have v4 : vp_in (nI c) 4 := vp_in_nI (by omega) (by decide)
  have e3 : (8 : Int32) * nI c + 3 = nI (8 * c + 3) := by rw [dm_8]; exact nI_add (8 * c) 3
  unfold wpY_register
  refine dm_ych hc hN (br_f (by decide) (br_t (by decide) (br_f (by decide) (br_f (by decide) (br_f (by decide) (br_f (by decide) (br_f (by decide) ?_)))))))
  refine ⟨by rw [e3]; exact vp_in_nI (by omega) (by decide), ?_⟩
  rw [e3, nI_clamp (n := 8 * c + 3) (by omega), hl]
  refine nm_e ⟨v4, ?_⟩
  rw [ecl]
  refine br_c h0 (fun z => ?_)
  obtain ⟨l0, K⟩ := h1 z
  refine br_f (nI_ne0 l0 (by omega)) ?_
  exact (br_f (by decide) (br_t (by decide) ⟨v4, K⟩))
theorem dm_xr5 {post : Int32 → Prop} (hc : c < N) (hN : N ≤ 4) (h0 : ld c = 0 → post 0) (h1 : ¬ ld c = 0 → wpX_loadedRegister (fun r => post r) (f0, f1, f2, f3, f4, f5, nI N, ho, cr, ev, wd, md, st, wt, de, mv, ld, rs, rd, rl, co, le, ss, ds, nx, ct) (nI c) (nI 5)) : wpX_register post (f0, f1, f2, f3, f4, f5, nI N, ho, cr, ev, wd, md, st, wt, de, mv, ld, rs, rd, rl, co, le, ss, ds, nx, ct) (nI c) (nI 5) := by
  have ecl : (nI c).toNatClampNeg = c := nI_clamp (by omega)
  unfold wpX_register
  refine dm_xch hc hN (br_f (by decide) (br_f (by decide) (br_t (by decide) (br_f (by decide) (br_f (by decide) (br_f (by decide) (br_f (by decide) (br_f (by decide) (br_f (by decide) (br_t (by decide) ?_))))))))))
  unfold wX_register_138
  rw [ecl]
  exact ⟨vp_in_nI (by omega) (by decide), br_c h0 h1⟩
theorem dm_yr5 {post : Int32 → Prop} {l : Nat} (hc : c < N) (hN : N ≤ 4) (hl : dc (8 * c + 3) = nI l) (hl2 : l < 256) (h0 : ld c = 0 → post 0) (h1 : ¬ ld c = 0 → 0 < l ∧ (wpY_address (fun r => post r) (nI N, ho, cr, ev, me, md, st, wt, de, mv, ld, dc, kk) (nI c) (kk c) 2)) : wpY_register post (nI N, ho, cr, ev, me, md, st, wt, de, mv, ld, dc, kk) (nI c) (nI 5) := by
  have ecl : (nI c).toNatClampNeg = c := nI_clamp (by omega)
  have v4 : vp_in (nI c) 4 := vp_in_nI (by omega) (by decide)
  have e3 : (8 : Int32) * nI c + 3 = nI (8 * c + 3) := by rw [dm_8]; exact nI_add (8 * c) 3
  unfold wpY_register
  refine dm_ych hc hN (br_f (by decide) (br_t (by decide) (br_f (by decide) (br_f (by decide) (br_f (by decide) (br_f (by decide) (br_f (by decide) ?_)))))))
  refine ⟨by rw [e3]; exact vp_in_nI (by omega) (by decide), ?_⟩
  rw [e3, nI_clamp (n := 8 * c + 3) (by omega), hl]
  refine nm_e ⟨v4, ?_⟩
  rw [ecl]
  refine br_c h0 (fun z => ?_)
  obtain ⟨l0, K⟩ := h1 z
  refine br_f (nI_ne0 l0 (by omega)) ?_
  exact (br_f (by decide) (br_f (by decide) (br_t (by decide) ⟨v4, K⟩)))
theorem dm_xr6 {post : Int32 → Prop} (hc : c < N) (hN : N ≤ 4) (h0 : ld c = 0 → post 0) (h1 : ¬ ld c = 0 → wpX_loadedRegister (fun r => post r) (f0, f1, f2, f3, f4, f5, nI N, ho, cr, ev, wd, md, st, wt, de, mv, ld, rs, rd, rl, co, le, ss, ds, nx, ct) (nI c) (nI 6)) : wpX_register post (f0, f1, f2, f3, f4, f5, nI N, ho, cr, ev, wd, md, st, wt, de, mv, ld, rs, rd, rl, co, le, ss, ds, nx, ct) (nI c) (nI 6) := by
  have ecl : (nI c).toNatClampNeg = c := nI_clamp (by omega)
  unfold wpX_register
  refine dm_xch hc hN (br_f (by decide) (br_f (by decide) (br_t (by decide) (br_f (by decide) (br_f (by decide) (br_f (by decide) (br_f (by decide) (br_f (by decide) (br_f (by decide) (br_f (by decide) (br_t (by decide) ?_)))))))))))
  unfold wX_register_138
  rw [ecl]
  exact ⟨vp_in_nI (by omega) (by decide), br_c h0 h1⟩
theorem dm_yr6 {post : Int32 → Prop} {l : Nat} (hc : c < N) (hN : N ≤ 4) (hl : dc (8 * c + 3) = nI l) (hl2 : l < 256) (h0 : ld c = 0 → post 0) (h1 : ¬ ld c = 0 → 0 < l ∧ (post (nI l - (kk c - kk c / nI l * nI l)))) : wpY_register post (nI N, ho, cr, ev, me, md, st, wt, de, mv, ld, dc, kk) (nI c) (nI 6) := by
  have ecl : (nI c).toNatClampNeg = c := nI_clamp (by omega)
  have v4 : vp_in (nI c) 4 := vp_in_nI (by omega) (by decide)
  have e3 : (8 : Int32) * nI c + 3 = nI (8 * c + 3) := by rw [dm_8]; exact nI_add (8 * c) 3
  unfold wpY_register
  refine dm_ych hc hN (br_f (by decide) (br_t (by decide) (br_f (by decide) (br_f (by decide) (br_f (by decide) (br_f (by decide) (br_f (by decide) ?_)))))))
  refine ⟨by rw [e3]; exact vp_in_nI (by omega) (by decide), ?_⟩
  rw [e3, nI_clamp (n := 8 * c + 3) (by omega), hl]
  refine nm_e ⟨v4, ?_⟩
  rw [ecl]
  refine br_c h0 (fun z => ?_)
  obtain ⟨l0, K⟩ := h1 z
  refine br_f (nI_ne0 l0 (by omega)) ?_
  exact (br_f (by decide) (br_f (by decide) (br_f (by decide) (br_t (by decide) ⟨v4, nI_ne0 l0 (by omega), K⟩))))
theorem dm_xr7 {post : Int32 → Prop} (hc : c < N) (hN : N ≤ 4) (h0 : ld c = 0 → post 0) (h1 : ¬ ld c = 0 → wpX_loadedRegister (fun r => post r) (f0, f1, f2, f3, f4, f5, nI N, ho, cr, ev, wd, md, st, wt, de, mv, ld, rs, rd, rl, co, le, ss, ds, nx, ct) (nI c) (nI 7)) : wpX_register post (f0, f1, f2, f3, f4, f5, nI N, ho, cr, ev, wd, md, st, wt, de, mv, ld, rs, rd, rl, co, le, ss, ds, nx, ct) (nI c) (nI 7) := by
  have ecl : (nI c).toNatClampNeg = c := nI_clamp (by omega)
  unfold wpX_register
  refine dm_xch hc hN (br_f (by decide) (br_f (by decide) (br_t (by decide) (br_f (by decide) (br_f (by decide) (br_f (by decide) (br_f (by decide) (br_f (by decide) (br_f (by decide) (br_f (by decide) (br_f (by decide) (br_t (by decide) ?_))))))))))))
  unfold wX_register_138
  rw [ecl]
  exact ⟨vp_in_nI (by omega) (by decide), br_c h0 h1⟩
theorem dm_yr7 {post : Int32 → Prop} {l : Nat} (hc : c < N) (hN : N ≤ 4) (hl : dc (8 * c + 3) = nI l) (hl2 : l < 256) (h0 : ld c = 0 → post 0) (h1 : ¬ ld c = 0 → 0 < l ∧ (post (nI l))) : wpY_register post (nI N, ho, cr, ev, me, md, st, wt, de, mv, ld, dc, kk) (nI c) (nI 7) := by
  have ecl : (nI c).toNatClampNeg = c := nI_clamp (by omega)
  have v4 : vp_in (nI c) 4 := vp_in_nI (by omega) (by decide)
  have e3 : (8 : Int32) * nI c + 3 = nI (8 * c + 3) := by rw [dm_8]; exact nI_add (8 * c) 3
  unfold wpY_register
  refine dm_ych hc hN (br_f (by decide) (br_t (by decide) (br_f (by decide) (br_f (by decide) (br_f (by decide) (br_f (by decide) (br_f (by decide) ?_)))))))
  refine ⟨by rw [e3]; exact vp_in_nI (by omega) (by decide), ?_⟩
  rw [e3, nI_clamp (n := 8 * c + 3) (by omega), hl]
  refine nm_e ⟨v4, ?_⟩
  rw [ecl]
  refine br_c h0 (fun z => ?_)
  obtain ⟨l0, K⟩ := h1 z
  refine br_f (nI_ne0 l0 (by omega)) ?_
  exact (br_f (by decide) (br_f (by decide) (br_f (by decide) (br_f (by decide) (br_t (by decide) K)))))
theorem dm_xr8 {post : Int32 → Prop} (hc : c < N) (hN : N ≤ 4) (h0 : ld c = 0 → post 0) (h1 : ¬ ld c = 0 → wpX_loadedRegister (fun r => post r) (f0, f1, f2, f3, f4, f5, nI N, ho, cr, ev, wd, md, st, wt, de, mv, ld, rs, rd, rl, co, le, ss, ds, nx, ct) (nI c) (nI 8)) : wpX_register post (f0, f1, f2, f3, f4, f5, nI N, ho, cr, ev, wd, md, st, wt, de, mv, ld, rs, rd, rl, co, le, ss, ds, nx, ct) (nI c) (nI 8) := by
  have ecl : (nI c).toNatClampNeg = c := nI_clamp (by omega)
  unfold wpX_register
  refine dm_xch hc hN (br_f (by decide) (br_f (by decide) (br_t (by decide) (br_f (by decide) (br_f (by decide) (br_f (by decide) (br_f (by decide) (br_f (by decide) (br_f (by decide) (br_f (by decide) (br_f (by decide) (br_f (by decide) (br_t (by decide) ?_)))))))))))))
  unfold wX_register_138
  rw [ecl]
  exact ⟨vp_in_nI (by omega) (by decide), br_c h0 h1⟩
theorem dm_yr8 {post : Int32 → Prop} {l : Nat} (hc : c < N) (hN : N ≤ 4) (hl : dc (8 * c + 3) = nI l) (hl2 : l < 256) (h0 : ld c = 0 → post 0) (h1 : ¬ ld c = 0 → 0 < l ∧ (((dc (8 * c) &&& 3 = 1 → post 0) ∧ (¬ dc (8 * c) &&& 3 = 1 → post (dc (8 * c + 5) * 256 + dc (8 * c + 6)))))) : wpY_register post (nI N, ho, cr, ev, me, md, st, wt, de, mv, ld, dc, kk) (nI c) (nI 8) := by
  have ecl : (nI c).toNatClampNeg = c := nI_clamp (by omega)
  have v4 : vp_in (nI c) 4 := vp_in_nI (by omega) (by decide)
  have e3 : (8 : Int32) * nI c + 3 = nI (8 * c + 3) := by rw [dm_8]; exact nI_add (8 * c) 3
  have e5 : (8 : Int32) * nI c + 5 = nI (8 * c + 5) := by rw [dm_8]; exact nI_add (8 * c) 5
  have e6 : (8 : Int32) * nI c + 6 = nI (8 * c + 6) := by rw [dm_8]; exact nI_add (8 * c) 6
  unfold wpY_register
  refine dm_ych hc hN (br_f (by decide) (br_t (by decide) (br_f (by decide) (br_f (by decide) (br_f (by decide) (br_f (by decide) (br_f (by decide) ?_)))))))
  refine ⟨by rw [e3]; exact vp_in_nI (by omega) (by decide), ?_⟩
  rw [e3, nI_clamp (n := 8 * c + 3) (by omega), hl]
  refine nm_e ⟨v4, ?_⟩
  rw [ecl]
  refine br_c h0 (fun z => ?_)
  obtain ⟨l0, K⟩ := h1 z
  refine br_f (nI_ne0 l0 (by omega)) ?_
  refine (br_f (by decide) (br_f (by decide) (br_f (by decide) (br_f (by decide) (br_f (by decide) (br_t (by decide) ?_))))))
  rw [e5, e6, dm_8, nI_clamp (n := 8 * c + 5) (by omega), nI_clamp (n := 8 * c + 6) (by omega), nI_clamp (n := 8 * c) (by omega)]
  exact ⟨vp_in_nI (by omega) (by decide), br_c K.1 (fun y => ⟨vp_in_nI (by omega) (by decide), vp_in_nI (by omega) (by decide), K.2 y⟩)⟩
theorem dm_xr9 {post : Int32 → Prop} (hc : c < N) (hN : N ≤ 4) (h0 : ld c = 0 → post 0) (h1 : ¬ ld c = 0 → wpX_loadedRegister (fun r => post r) (f0, f1, f2, f3, f4, f5, nI N, ho, cr, ev, wd, md, st, wt, de, mv, ld, rs, rd, rl, co, le, ss, ds, nx, ct) (nI c) (nI 9)) : wpX_register post (f0, f1, f2, f3, f4, f5, nI N, ho, cr, ev, wd, md, st, wt, de, mv, ld, rs, rd, rl, co, le, ss, ds, nx, ct) (nI c) (nI 9) := by
  have ecl : (nI c).toNatClampNeg = c := nI_clamp (by omega)
  unfold wpX_register
  refine dm_xch hc hN (br_f (by decide) (br_f (by decide) (br_t (by decide) (br_f (by decide) (br_f (by decide) (br_f (by decide) (br_f (by decide) (br_f (by decide) (br_f (by decide) (br_f (by decide) (br_f (by decide) (br_f (by decide) (br_f (by decide) (br_t (by decide) ?_))))))))))))))
  unfold wX_register_138
  rw [ecl]
  exact ⟨vp_in_nI (by omega) (by decide), br_c h0 h1⟩
theorem dm_yr9 {post : Int32 → Prop} {l : Nat} (hc : c < N) (hN : N ≤ 4) (hl : dc (8 * c + 3) = nI l) (hl2 : l < 256) (h0 : ld c = 0 → post 0) (h1 : ¬ ld c = 0 → 0 < l ∧ (post (dc (8 * c + 7)))) : wpY_register post (nI N, ho, cr, ev, me, md, st, wt, de, mv, ld, dc, kk) (nI c) (nI 9) := by
  have ecl : (nI c).toNatClampNeg = c := nI_clamp (by omega)
  have v4 : vp_in (nI c) 4 := vp_in_nI (by omega) (by decide)
  have e3 : (8 : Int32) * nI c + 3 = nI (8 * c + 3) := by rw [dm_8]; exact nI_add (8 * c) 3
  have e7 : (8 : Int32) * nI c + 7 = nI (8 * c + 7) := by rw [dm_8]; exact nI_add (8 * c) 7
  unfold wpY_register
  refine dm_ych hc hN (br_f (by decide) (br_t (by decide) (br_f (by decide) (br_f (by decide) (br_f (by decide) (br_f (by decide) (br_f (by decide) ?_)))))))
  refine ⟨by rw [e3]; exact vp_in_nI (by omega) (by decide), ?_⟩
  rw [e3, nI_clamp (n := 8 * c + 3) (by omega), hl]
  refine nm_e ⟨v4, ?_⟩
  rw [ecl]
  refine br_c h0 (fun z => ?_)
  obtain ⟨l0, K⟩ := h1 z
  refine br_f (nI_ne0 l0 (by omega)) ?_
  refine (br_f (by decide) (br_f (by decide) (br_f (by decide) (br_f (by decide) (br_f (by decide) (br_f (by decide) (br_t (by decide) ?_)))))))
  rw [e7, nI_clamp (n := 8 * c + 7) (by omega)]
  exact ⟨vp_in_nI (by omega) (by decide), K⟩
theorem dm_xr10 {post : Int32 → Prop} (hc : c < N) (hN : N ≤ 4) (h0 : ld c = 0 → post 0) (h1 : ¬ ld c = 0 → wpX_loadedRegister (fun r => post r) (f0, f1, f2, f3, f4, f5, nI N, ho, cr, ev, wd, md, st, wt, de, mv, ld, rs, rd, rl, co, le, ss, ds, nx, ct) (nI c) (nI 10)) : wpX_register post (f0, f1, f2, f3, f4, f5, nI N, ho, cr, ev, wd, md, st, wt, de, mv, ld, rs, rd, rl, co, le, ss, ds, nx, ct) (nI c) (nI 10) := by
  have ecl : (nI c).toNatClampNeg = c := nI_clamp (by omega)
  unfold wpX_register
  refine dm_xch hc hN (br_f (by decide) (br_f (by decide) (br_t (by decide) (br_f (by decide) (br_f (by decide) (br_f (by decide) (br_f (by decide) (br_f (by decide) (br_f (by decide) (br_f (by decide) (br_f (by decide) (br_f (by decide) (br_f (by decide) (br_f (by decide) (br_t (by decide) ?_)))))))))))))))
  unfold wX_register_138
  rw [ecl]
  exact ⟨vp_in_nI (by omega) (by decide), br_c h0 h1⟩
theorem dm_yr10 {post : Int32 → Prop} {l : Nat} (hc : c < N) (hN : N ≤ 4) (hl : dc (8 * c + 3) = nI l) (hl2 : l < 256) (h0 : ld c = 0 → post 0) (h1 : ¬ ld c = 0 → 0 < l ∧ (post (dc (8 * c)))) : wpY_register post (nI N, ho, cr, ev, me, md, st, wt, de, mv, ld, dc, kk) (nI c) (nI 10) := by
  have ecl : (nI c).toNatClampNeg = c := nI_clamp (by omega)
  have v4 : vp_in (nI c) 4 := vp_in_nI (by omega) (by decide)
  have e3 : (8 : Int32) * nI c + 3 = nI (8 * c + 3) := by rw [dm_8]; exact nI_add (8 * c) 3
  unfold wpY_register
  refine dm_ych hc hN (br_f (by decide) (br_t (by decide) (br_f (by decide) (br_f (by decide) (br_f (by decide) (br_f (by decide) (br_f (by decide) ?_)))))))
  refine ⟨by rw [e3]; exact vp_in_nI (by omega) (by decide), ?_⟩
  rw [e3, nI_clamp (n := 8 * c + 3) (by omega), hl]
  refine nm_e ⟨v4, ?_⟩
  rw [ecl]
  refine br_c h0 (fun z => ?_)
  obtain ⟨l0, K⟩ := h1 z
  refine br_f (nI_ne0 l0 (by omega)) ?_
  refine (br_f (by decide) (br_f (by decide) (br_f (by decide) (br_f (by decide) (br_f (by decide) (br_f (by decide) (br_f (by decide) ?_)))))))
  rw [dm_8, nI_clamp (n := 8 * c) (by omega)]
  exact ⟨vp_in_nI (by omega) (by decide), K⟩
end
theorem i_vc_register {k : Nat} {u : SX} {v : SY} (I : i_Rel k u v) (hk : k + 3 ≤ 1538) (v1 : Int32) (v2 : Int32) : wpX_register (fun r => wpY_register (fun r' => r' = r ∧ i_Rel (k + 3) u v) v v1 v2) u v1 v2 := by
  refine dm_el (Z := fun u v => ∀ Z : Prop, Z → wpX_register (fun r => wpY_register (fun r' => r' = r ∧ Z) v v1 v2) u v1 v2) ?_ I _ (i_up I)
  intro f0 f1 f2 f3 f4 f5 ev wd md st wt de mv ld rs rd rl co le ss ds nx ct me dc kk N H C B Q P F Z hZ
  have hN := F.1.2.1
  rcases dm_split hN v1 with g | ⟨c, hc, rfl⟩
  · unfold wpX_register wpY_register
    exact dm_xchf g (br_t rfl (dm_ychf g ⟨rfl, hZ⟩))
  have vi : vp_in (nI c) 4 := vp_in_nI (by omega) (by decide)
  have ecl : (nI c).toNatClampNeg = c := nI_clamp (by omega)
  have hS := F.2.1.1
  obtain ⟨_, _, _, hB, hX, hY⟩ := F
  by_cases n0 : v2 < 0
  · unfold wpX_register wpY_register
    exact dm_xch hc hN (br_f (by decide) (br_t n0 (dm_ych hc hN (br_t n0 ⟨rfl, hZ⟩))))
  by_cases n12 : v2 ≤ 12
  rotate_left
  · unfold wpX_register wpY_register
    exact dm_xch hc hN (br_f (by decide) (br_f n0 (br_f n12 (dm_ych hc hN (br_f n0 (br_f n12 ⟨rfl, hZ⟩))))))
  obtain ⟨j, hj, rfl⟩ := nI_of n0
  have hj12 : j ≤ 12 := (nI_leI (b := 12) hj (by decide)).mp n12
  have hl := hY.1 (8 * c + 3) (by omega)
  have hl2 := hB.1 (8 * c + 3) (by omega)
  have hd : 0 < dm_L B c → ∀ s, s < 4 → ∀ post : Int32 → Prop, ¬ ld c = 0 → post (nI (dm_ad B c (dm_K B Q P c) s)) → wpY_address post (nI N, nI H, nI C, ev, me, md, st, wt, de, mv, ld, dc, kk) (nI c) (kk c) (nI s) := by
    intro p0 s hs post z h
    have hb := hB.2 c (by omega) z
    have hKT := dm_K_T hb.1 hb.2
    have hT := dm_T_lt (B := B) (c := c) (hB.1 _ (by omega))
    rw [hY.2.2 c (by omega) z]
    exact dm_yadr (by omega) hs (by omega) hB.1 hY.1 p0 h
  have js : j = 0 ∨ j = 1 ∨ j = 2 ∨ j = 3 ∨ j = 4 ∨ j = 5 ∨ j = 6 ∨ j = 7 ∨ j = 8 ∨ j = 9 ∨ j = 10 ∨ j = 11 ∨ j = 12 := by omega
  clear n0 n12 hj hj12
  rcases js with rfl | rfl | rfl | rfl | rfl | rfl | rfl | rfl | rfl | rfl | rfl | rfl | rfl
  · refine dm_xr0 hc hN (fun z => dm_yr0 hc hN hl hl2 (fun _ => ⟨rfl, hZ⟩) (fun y => absurd z y)) (fun z => ?_)
    have hb := hB.2 c (by omega) z
    obtain ⟨x1, x2, x3, x4, x5, x6, x7, x8, x9⟩ := hX c (by omega) z
    have hk := hY.2.2 c (by omega) z
    have hKT := dm_K_T hb.1 hb.2
    have hT := dm_T_lt (B := B) (c := c) (hB.1 _ (by omega))
    unfold wpX_loadedRegister
    refine (br_f (by decide) (br_f (by decide) (br_t (by decide) ?_)))
    refine ⟨vi, vi, vi, ?_⟩
    rw [ecl, x3, x4, x5]
    refine dm_yr0 hc hN hl hl2 (fun y => absurd y z) (fun _ => ⟨by unfold dm_L at hb; omega, ?_⟩)
    refine dm_ytotal (by omega) hY.1 ⟨vi, ?_, hZ⟩
    have e1 : dm_L B c ≤ (dm_R B c - Q c) * dm_L B c := Nat.le_mul_of_pos_left _ (by omega)
    rw [hk, pk_sub (by omega), pk_mul, pk_sub (by omega)]
    rw [Nat.sub_mul] at e1 ⊢
    unfold dm_T dm_K
    rw [Nat.mul_comm (dm_R B c) (dm_L B c)]
    exact congrArg nI (by omega)
  · unfold wpX_register
    refine dm_xch hc hN (br_f (by decide) (br_f (by decide) (br_t (by decide) (br_f (by decide) (br_f (by decide) (br_t (by decide) ?_))))))
    unfold wpY_register
    exact ⟨vi, dm_ych hc hN (br_f (by decide) (br_t (by decide) (br_t (by decide) ⟨vi, rfl, hZ⟩)))⟩
  · unfold wpX_register
    refine dm_xch hc hN (br_f (by decide) (br_f (by decide) (br_t (by decide) (br_f (by decide) (br_f (by decide) (br_f (by decide) (br_t (by decide) ?_)))))))
    unfold wpY_register
    exact ⟨vi, dm_ych hc hN (br_f (by decide) (br_t (by decide) (br_f (by decide) (br_t (by decide) ⟨vi, rfl, hZ⟩))))⟩
  · unfold wpX_register
    refine dm_xch hc hN (br_f (by decide) (br_f (by decide) (br_t (by decide) (br_f (by decide) (br_f (by decide) (br_f (by decide) (br_f (by decide) (br_t (by decide) ?_))))))))
    unfold wpY_register
    refine ⟨vi, ?_⟩
    refine br_c (fun z => dm_ych hc hN (br_f (by decide) (br_t (by decide) (br_f (by decide) (br_f (by decide) (br_t (by decide) ⟨vi, br_t z ⟨rfl, hZ⟩⟩)))))) (fun z => dm_ych hc hN (br_f (by decide) (br_t (by decide) (br_f (by decide) (br_f (by decide) (br_t (by decide) ⟨vi, br_f z ⟨rfl, hZ⟩⟩))))))
  · refine dm_xr4 hc hN (fun z => dm_yr4 hc hN hl hl2 (fun _ => ⟨rfl, hZ⟩) (fun y => absurd z y)) (fun z => ?_)
    have hb := hB.2 c (by omega) z
    obtain ⟨x1, x2, x3, x4, x5, x6, x7, x8, x9⟩ := hX c (by omega) z
    have hk := hY.2.2 c (by omega) z
    have hKT := dm_K_T hb.1 hb.2
    have hT := dm_T_lt (B := B) (c := c) (hB.1 _ (by omega))
    unfold wpX_loadedRegister
    refine (br_f (by decide) (br_f (by decide) (br_f (by decide) (br_f (by decide) (br_f (by decide) (br_f (by decide) (br_t (by decide) ?_)))))))
    refine dm_xsrc (by omega) hb.1 (hX c (by omega) z) ?_
    refine dm_yr4 hc hN hl hl2 (fun y => absurd y z) (fun _ => ⟨by unfold dm_L at hb; omega, ?_⟩)
    exact hd (by omega) 1 (by decide) _ z ⟨rfl, hZ⟩
  · refine dm_xr5 hc hN (fun z => dm_yr5 hc hN hl hl2 (fun _ => ⟨rfl, hZ⟩) (fun y => absurd z y)) (fun z => ?_)
    have hb := hB.2 c (by omega) z
    obtain ⟨x1, x2, x3, x4, x5, x6, x7, x8, x9⟩ := hX c (by omega) z
    have hk := hY.2.2 c (by omega) z
    have hKT := dm_K_T hb.1 hb.2
    have hT := dm_T_lt (B := B) (c := c) (hB.1 _ (by omega))
    unfold wpX_loadedRegister
    refine (br_f (by decide) (br_f (by decide) (br_f (by decide) (br_f (by decide) (br_f (by decide) (br_f (by decide) (br_f (by decide) (br_t (by decide) ?_))))))))
    refine dm_xdst (by omega) hb.1 (hX c (by omega) z) ?_
    refine dm_yr5 hc hN hl hl2 (fun y => absurd y z) (fun _ => ⟨by unfold dm_L at hb; omega, ?_⟩)
    exact hd (by omega) 2 (by decide) _ z ⟨rfl, hZ⟩
  · refine dm_xr6 hc hN (fun z => dm_yr6 hc hN hl hl2 (fun _ => ⟨rfl, hZ⟩) (fun y => absurd z y)) (fun z => ?_)
    have hb := hB.2 c (by omega) z
    obtain ⟨x1, x2, x3, x4, x5, x6, x7, x8, x9⟩ := hX c (by omega) z
    have hk := hY.2.2 c (by omega) z
    have hKT := dm_K_T hb.1 hb.2
    have hT := dm_T_lt (B := B) (c := c) (hB.1 _ (by omega))
    unfold wpX_loadedRegister
    refine (br_f (by decide) (br_f (by decide) (br_f (by decide) (br_f (by decide) (br_f (by decide) (br_f (by decide) (br_f (by decide) (br_f (by decide) (br_t (by decide) ?_)))))))))
    refine ⟨vi, vi, ?_⟩
    rw [ecl, x4, x5]
    refine dm_yr6 hc hN hl hl2 (fun y => absurd y z) (fun _ => ⟨by unfold dm_L at hb; omega, ?_⟩)
    refine ⟨?_, hZ⟩
    show nI (dm_L B c) - (kk c - kk c / nI (dm_L B c) * nI (dm_L B c)) = _
    have hLb : dm_L B c < 256 := hl2
    rw [hk, pk_rem (by omega) (by omega) (by omega)]
    unfold dm_K
    rw [(dm_dv hb.1).2]
  · refine dm_xr7 hc hN (fun z => dm_yr7 hc hN hl hl2 (fun _ => ⟨rfl, hZ⟩) (fun y => absurd z y)) (fun z => ?_)
    have hb := hB.2 c (by omega) z
    obtain ⟨x1, x2, x3, x4, x5, x6, x7, x8, x9⟩ := hX c (by omega) z
    have hk := hY.2.2 c (by omega) z
    have hKT := dm_K_T hb.1 hb.2
    have hT := dm_T_lt (B := B) (c := c) (hB.1 _ (by omega))
    unfold wpX_loadedRegister
    refine (br_f (by decide) (br_f (by decide) (br_f (by decide) (br_f (by decide) (br_f (by decide) (br_f (by decide) (br_f (by decide) (br_f (by decide) (br_f (by decide) (br_t (by decide) ?_))))))))))
    refine ⟨vi, ?_⟩
    rw [ecl, x5]
    refine dm_yr7 hc hN hl hl2 (fun y => absurd y z) (fun _ => ⟨by unfold dm_L at hb; omega, ?_⟩)
    exact ⟨rfl, hZ⟩
  · refine dm_xr8 hc hN (fun z => dm_yr8 hc hN hl hl2 (fun _ => ⟨rfl, hZ⟩) (fun y => absurd z y)) (fun z => ?_)
    have hb := hB.2 c (by omega) z
    obtain ⟨x1, x2, x3, x4, x5, x6, x7, x8, x9⟩ := hX c (by omega) z
    have hk := hY.2.2 c (by omega) z
    have hKT := dm_K_T hb.1 hb.2
    have hT := dm_T_lt (B := B) (c := c) (hB.1 _ (by omega))
    unfold wpX_loadedRegister
    refine (br_f (by decide) (br_f (by decide) (br_f (by decide) (br_f (by decide) (br_f (by decide) (br_f (by decide) (br_f (by decide) (br_f (by decide) (br_f (by decide) (br_f (by decide) (br_t (by decide) ?_)))))))))))
    refine ⟨vi, vi, ?_⟩
    rw [ecl, x6, x7]
    refine dm_yr8 hc hN hl hl2 (fun y => absurd y z) (fun _ => ⟨by unfold dm_L at hb; omega, ?_⟩)
    rw [hY.1 (8 * c) (by omega), hY.1 (8 * c + 5) (by omega), hY.1 (8 * c + 6) (by omega), dm_a3]
    unfold dm_S
    refine pk_eq (B (8 * c) % 4) 1 (fun q => ⟨?_, hZ⟩) (fun q => ⟨?_, hZ⟩)
    · rw [if_pos q, if_pos q]; rfl
    · rw [if_neg q, if_neg q]
  · refine dm_xr9 hc hN (fun z => dm_yr9 hc hN hl hl2 (fun _ => ⟨rfl, hZ⟩) (fun y => absurd z y)) (fun z => ?_)
    have hb := hB.2 c (by omega) z
    obtain ⟨x1, x2, x3, x4, x5, x6, x7, x8, x9⟩ := hX c (by omega) z
    have hk := hY.2.2 c (by omega) z
    have hKT := dm_K_T hb.1 hb.2
    have hT := dm_T_lt (B := B) (c := c) (hB.1 _ (by omega))
    unfold wpX_loadedRegister
    refine (br_f (by decide) (br_f (by decide) (br_f (by decide) (br_f (by decide) (br_f (by decide) (br_f (by decide) (br_f (by decide) (br_f (by decide) (br_f (by decide) (br_f (by decide) (br_f (by decide) (br_t (by decide) ?_))))))))))))
    refine ⟨vi, ?_⟩
    rw [ecl, x8]
    refine dm_yr9 hc hN hl hl2 (fun y => absurd y z) (fun _ => ⟨by unfold dm_L at hb; omega, ?_⟩)
    exact ⟨hY.1 (8 * c + 7) (by omega), hZ⟩
  · refine dm_xr10 hc hN (fun z => dm_yr10 hc hN hl hl2 (fun _ => ⟨rfl, hZ⟩) (fun y => absurd z y)) (fun z => ?_)
    have hb := hB.2 c (by omega) z
    obtain ⟨x1, x2, x3, x4, x5, x6, x7, x8, x9⟩ := hX c (by omega) z
    have hk := hY.2.2 c (by omega) z
    have hKT := dm_K_T hb.1 hb.2
    have hT := dm_T_lt (B := B) (c := c) (hB.1 _ (by omega))
    unfold wpX_loadedRegister
    refine (br_f (by decide) (br_t (by decide) ?_))
    refine ⟨vi, ?_⟩
    rw [ecl, x9]
    refine dm_yr10 hc hN hl hl2 (fun y => absurd y z) (fun _ => ⟨by unfold dm_L at hb; omega, ?_⟩)
    exact ⟨hY.1 (8 * c) (by omega), hZ⟩
  · unfold wpX_register
    refine dm_xch hc hN (br_f (by decide) (br_f (by decide) (br_t (by decide) (br_f (by decide) (br_f (by decide) (br_f (by decide) (br_f (by decide) (br_f (by decide) (br_f (by decide) (br_f (by decide) (br_f (by decide) (br_f (by decide) (br_f (by decide) (br_f (by decide) (br_f (by decide) (br_t (by decide) ?_))))))))))))))))
    unfold wpY_register
    exact ⟨vi, dm_ych hc hN (br_f (by decide) (br_t (by decide) (br_f (by decide) (br_f (by decide) (br_f (by decide) (br_t (by decide) ⟨vi, rfl, hZ⟩))))))⟩
  · unfold wpX_register
    refine dm_xch hc hN (br_f (by decide) (br_f (by decide) (br_t (by decide) (br_f (by decide) (br_f (by decide) (br_f (by decide) (br_f (by decide) (br_f (by decide) (br_f (by decide) (br_f (by decide) (br_f (by decide) (br_f (by decide) (br_f (by decide) (br_f (by decide) (br_f (by decide) (br_f (by decide) (br_t (by decide) ?_)))))))))))))))))
    unfold wpY_register
    refine dm_xstalled (by omega) hB hX hS (fun z => br_f (by decide) ?_) (fun z => br_t rfl ?_)
    · exact dm_ych hc hN (br_f (by decide) (br_t (by decide) (br_f (by decide) (br_f (by decide) (br_f (by decide) (br_f (by decide) (br_t (by decide) (dm_ystalled (by omega) hB hY hS (fun _ => br_f (by decide) ⟨rfl, hZ⟩) (fun y => absurd z y)))))))))
    · exact dm_ych hc hN (br_f (by decide) (br_t (by decide) (br_f (by decide) (br_f (by decide) (br_f (by decide) (br_f (by decide) (br_t (by decide) (dm_ystalled (by omega) hB hY hS (fun y => absurd y z) (fun _ => br_t rfl ⟨rfl, hZ⟩)))))))))
end
section
/-! ===== the arbiter, in lockstep ===== -/
def dm_g (N H t : Nat) : Nat := if H + t < N then H + t else H + t - N
theorem dm_g_lt {N H t : Nat} (h : H < N) (ht : t ≤ N) : dm_g N H t < N := by
  unfold dm_g
  by_cases z : H + t < N
  · rw [if_pos z]; exact z
  · rw [if_neg z]; omega
theorem dm_g_s1 {N H t : Nat} (h : H < N) (ht : t < N) (z : N ≤ dm_g N H t + 1) : dm_g N H (t + 1) = 0 := by
  unfold dm_g at z ⊢
  by_cases a : H + t < N
  · rw [if_pos a] at z; rw [if_neg (by omega)]; omega
  · rw [if_neg a] at z; omega
theorem dm_g_s2 {N H t : Nat} (h : H < N) (ht : t < N) (z : dm_g N H t + 1 < N) : dm_g N H (t + 1) = dm_g N H t + 1 := by
  unfold dm_g at z ⊢
  by_cases a : H + t < N
  · rw [if_pos a] at z ⊢; rw [if_pos (by omega)]; omega
  · rw [if_neg a] at z ⊢; rw [if_neg (by omega)]; omega
section
variable {f0 f1 f2 f3 f4 f5 nn ho cr ev : Int32} {wd md st wt de mv ld rs rd rl co le ss ds nx ct me dc kk : Nat → Int32} {N H C : Nat} {B Q P : Nat → Nat}
theorem dm_scan (hN : N ≤ 4) (hH : H < N) (hB : dm_FB B Q P ld) (hX : dm_FX B Q P ld rs rd rl co le ss ds nx ct) (hY : dm_FY B Q P ld dc kk) (hS : ∀ e, e < 4 → ∃ s, s < 8 ∧ st e = nI s) (hW : ∀ c, c < 4 → ∃ w, 1 ≤ w ∧ w ≤ 32 ∧ wt c = nI w) :
    ∀ m t, t + m = N →
      ((∀ post : Int32 → SX → Prop, post 0 (f0, f1, f2, f3, f4, f5, nI N, nI H, cr, ev, wd, md, st, wt, de, mv, ld, rs, rd, rl, co, le, ss, ds, nx, ct) → wX_grant_27 post f0 f1 f2 f3 f4 f5 (nI N) (nI H) cr ev wd md st wt de mv ld rs rd rl co le ss ds nx ct (m + 1) (nI (dm_g N H t)) (nI t)) ∧
       (∀ post : Int32 → SY → Prop, post 0 (nI N, nI H, cr, ev, me, md, st, wt, de, mv, ld, dc, kk) → wY_choose_26 post 0 (nI N) (nI H) cr ev me md st wt de mv ld dc kk (m + 1) (nI (t + 1)))) ∨
      ∃ H' C', H' < N ∧ 1 ≤ C' ∧ C' ≤ 32 ∧ dm_Rd B Q P ld st H' ∧
       (∀ post : Int32 → SX → Prop, post 1 (f0, f1, f2, f3, f4, f5, nI N, nI H', nI C', ev, wd, md, st, wt, de, mv, ld, rs, rd, rl, co, le, ss, ds, nx, ct) → wX_grant_27 post f0 f1 f2 f3 f4 f5 (nI N) (nI H) cr ev wd md st wt de mv ld rs rd rl co le ss ds nx ct (m + 1) (nI (dm_g N H t)) (nI t)) ∧
       (∀ post : Int32 → SY → Prop, post 1 (nI N, nI H', nI C', ev, me, md, st, wt, de, mv, ld, dc, kk) → wY_choose_26 post 0 (nI N) (nI H) cr ev me md st wt de mv ld dc kk (m + 1) (nI (t + 1))) := by
  intro m
  induction m with
  | zero =>
    intro t ht
    refine Or.inl ⟨fun post h => br_t (nI_le (by omega) (by omega)) h, fun post h => br_t (nI_lt (by omega) (by omega)) ⟨rfl, h⟩⟩
  | succ m ih =>
    intro t ht
    have hg := dm_g_lt (t := t + 1) hH (by omega)
    have stepX : ∀ post : Int32 → SX → Prop, wX_grant_52 post (wX_grant_27 post f0 f1 f2 f3 f4 f5 (nI N) (nI H) cr ev wd md st wt de mv ld rs rd rl co le ss ds nx ct (m + 1)) (nI t) (nI (dm_g N H (t + 1))) f0 f1 f2 f3 f4 f5 (nI N) (nI H) cr ev wd md st wt de mv ld rs rd rl co le ss ds nx ct → wX_grant_27 post f0 f1 f2 f3 f4 f5 (nI N) (nI H) cr ev wd md st wt de mv ld rs rd rl co le ss ds nx ct (m + 1 + 1) (nI (dm_g N H t)) (nI t) := by
      intro post K
      have hg0 := dm_g_lt (t := t) hH (by omega)
      refine br_f (nI_ge (by omega) (by omega)) (pk_le N (dm_g N H t + 1) (fun z => ?_) (fun z => ?_) (hy := nI_1 _))
      · rw [dm_g_s1 hH (by omega) z] at K; exact K
      · rw [nI_1]
        rw [dm_g_s2 hH (by omega) z] at K; exact K
    have stepY : ∀ post : Int32 → SY → Prop, wY_choose_71 post (wY_choose_26 post 0 (nI N) (nI H) cr ev me md st wt de mv ld dc kk (m + 1)) 0 (nI (t + 1)) (nI (dm_g N H (t + 1))) (nI N) (nI H) cr ev me md st wt de mv ld dc kk → wY_choose_26 post 0 (nI N) (nI H) cr ev me md st wt de mv ld dc kk (m + 1 + 1) (nI (t + 1)) := by
      intro post K
      unfold dm_g at K
      refine br_f (nI_nlt (by omega) (by omega)) (br_t rfl (pk_le N (H + (t + 1)) (fun z => ?_) (fun z => ?_) (hy := nI_add _ _)))
      · rw [nI_add, pk_sub z]
        rw [if_neg (by omega)] at K; exact K
      · rw [nI_add]
        rw [if_pos z] at K; exact K
    by_cases hrd : dm_Rd B Q P ld st (dm_g N H (t + 1))
    · obtain ⟨w, w1, w2, ew⟩ := hW (dm_g N H (t + 1)) (by omega)
      have ew' : wt (nI (dm_g N H (t + 1))).toNatClampNeg = nI w := by rw [nI_clamp (by omega)]; exact ew
      refine Or.inr ⟨dm_g N H (t + 1), w, hg, w1, w2, hrd, fun post h => stepX post ?_, fun post h => stepY post ?_⟩
      · unfold wX_grant_52
        refine dm_xready (by omega) hB hX hS (fun _ => br_f (by decide) ⟨vp_in_nI (by omega) (by decide), nm_r ew' h⟩) (fun n => absurd hrd n)
      · unfold wY_choose_71
        refine dm_yready (by omega) hB hY hS (fun _ => br_f (by decide) ⟨vp_in_nI (by omega) (by decide), nm_r ew' h⟩) (fun n => absurd hrd n)
    · have goX : ∀ post : Int32 → SX → Prop, wX_grant_27 post f0 f1 f2 f3 f4 f5 (nI N) (nI H) cr ev wd md st wt de mv ld rs rd rl co le ss ds nx ct (m + 1) (nI (dm_g N H (t + 1))) (nI (t + 1)) → wX_grant_27 post f0 f1 f2 f3 f4 f5 (nI N) (nI H) cr ev wd md st wt de mv ld rs rd rl co le ss ds nx ct (m + 1 + 1) (nI (dm_g N H t)) (nI t) := by
        intro post h
        refine stepX post ?_
        unfold wX_grant_52
        exact dm_xready (by omega) hB hX hS (fun y => absurd y hrd) (fun _ => br_t rfl (nm_r (nI_1 t) h))
      have goY : ∀ post : Int32 → SY → Prop, wY_choose_26 post 0 (nI N) (nI H) cr ev me md st wt de mv ld dc kk (m + 1) (nI (t + 1 + 1)) → wY_choose_26 post 0 (nI N) (nI H) cr ev me md st wt de mv ld dc kk (m + 1 + 1) (nI (t + 1)) := by
        intro post h
        refine stepY post ?_
        unfold wY_choose_71
        exact dm_yready (by omega) hB hY hS (fun y => absurd y hrd) (fun _ => br_t rfl (nm_r (nI_1 (t + 1)) h))
      rcases ih (t + 1) (by omega) with ⟨a, b⟩ | ⟨H', C', a1, a2, a3, a4, a5, a6⟩
      · exact Or.inl ⟨fun post h => goX post (a post h), fun post h => goY post (b post h)⟩
      · exact Or.inr ⟨H', C', a1, a2, a3, a4, fun post h => goX post (a5 post h), fun post h => goY post (a6 post h)⟩
theorem dm_keep {post : Int32 → SY → Prop} (hN : N ≤ 4) (hH : H < N) (hC : 1 ≤ C) (hC2 : C ≤ 32) (hB : dm_FB B Q P ld) (hY : dm_FY B Q P ld dc kk) (hS : ∀ e, e < 4 → ∃ s, s < 8 ∧ st e = nI s) (hrd : dm_Rd B Q P ld st H)
    (h : post 1 (nI N, nI H, nI C, ev, me, md, st, wt, de, mv, ld, dc, kk)) : wpY_choose post (nI N, nI H, nI C, ev, me, md, st, wt, de, mv, ld, dc, kk) := by
  unfold wpY_choose
  refine br_f (nI_nle hC (by omega)) ?_
  refine dm_yready (by omega) hB hY hS (fun _ => br_f (by decide) ⟨1, ?_⟩) (fun n => absurd hrd n)
  by_cases z : nI N < nI 1
  · exact br_t z ⟨rfl, h⟩
  · exact br_f z (br_f (by decide) ⟨rfl, h⟩)
theorem dm_grant (hN : N ≤ 4) (hH : H < N) (hC : C ≤ 32) (hB : dm_FB B Q P ld) (hX : dm_FX B Q P ld rs rd rl co le ss ds nx ct) (hY : dm_FY B Q P ld dc kk) (hS : ∀ e, e < 4 → ∃ s, s < 8 ∧ st e = nI s) (hW : ∀ c, c < 4 → ∃ w, 1 ≤ w ∧ w ≤ 32 ∧ wt c = nI w) :
      ((∀ post : Int32 → SX → Prop, post 0 (f0, f1, f2, f3, f4, f5, nI N, nI H, nI C, ev, wd, md, st, wt, de, mv, ld, rs, rd, rl, co, le, ss, ds, nx, ct) → wpX_grant post (f0, f1, f2, f3, f4, f5, nI N, nI H, nI C, ev, wd, md, st, wt, de, mv, ld, rs, rd, rl, co, le, ss, ds, nx, ct)) ∧
       (∀ post : Int32 → SY → Prop, post 0 (nI N, nI H, nI C, ev, me, md, st, wt, de, mv, ld, dc, kk) → wpY_choose post (nI N, nI H, nI C, ev, me, md, st, wt, de, mv, ld, dc, kk))) ∨
      ∃ H' C', H' < N ∧ 1 ≤ C' ∧ C' ≤ 32 ∧ dm_Rd B Q P ld st H' ∧
       (∀ post : Int32 → SX → Prop, post 1 (f0, f1, f2, f3, f4, f5, nI N, nI H', nI C', ev, wd, md, st, wt, de, mv, ld, rs, rd, rl, co, le, ss, ds, nx, ct) → wpX_grant post (f0, f1, f2, f3, f4, f5, nI N, nI H, nI C, ev, wd, md, st, wt, de, mv, ld, rs, rd, rl, co, le, ss, ds, nx, ct)) ∧
       (∀ post : Int32 → SY → Prop, post 1 (nI N, nI H', nI C', ev, me, md, st, wt, de, mv, ld, dc, kk) → wpY_choose post (nI N, nI H, nI C, ev, me, md, st, wt, de, mv, ld, dc, kk)) := by
  have e0 : dm_g N H 0 = H := by unfold dm_g; rw [if_pos (by omega)]; rfl
  have go : ¬ (1 ≤ C ∧ dm_Rd B Q P ld st H) →
      (∀ post : Int32 → SX → Prop, wX_grant_27 post f0 f1 f2 f3 f4 f5 (nI N) (nI H) (nI C) ev wd md st wt de mv ld rs rd rl co le ss ds nx ct (N + 1) (nI H) (nI 0) → wpX_grant post (f0, f1, f2, f3, f4, f5, nI N, nI H, nI C, ev, wd, md, st, wt, de, mv, ld, rs, rd, rl, co, le, ss, ds, nx, ct)) ∧
      (∀ post : Int32 → SY → Prop, wY_choose_26 post 0 (nI N) (nI H) (nI C) ev me md st wt de mv ld dc kk (N + 1) (nI 1) → wpY_choose post (nI N, nI H, nI C, ev, me, md, st, wt, de, mv, ld, dc, kk)) := by
    intro hn
    by_cases z : C = 0
    · subst z
      exact ⟨fun post h => br_t (by decide) ⟨N + 1, h⟩, fun post h => br_t (by decide) ⟨N + 1, h⟩⟩
    · have nr : ¬ dm_Rd B Q P ld st H := fun y => hn ⟨by omega, y⟩
      refine ⟨fun post h => ?_, fun post h => ?_⟩
      · unfold wpX_grant
        exact br_f (nI_nle (by omega) (by omega)) (dm_xready (by omega) hB hX hS (fun y => absurd y nr) (fun _ => br_t rfl ⟨N + 1, h⟩))
      · unfold wpY_choose
        exact br_f (nI_nle (by omega) (by omega)) (dm_yready (by omega) hB hY hS (fun y => absurd y nr) (fun _ => br_t rfl ⟨N + 1, h⟩))
  by_cases hk : 1 ≤ C ∧ dm_Rd B Q P ld st H
  · refine Or.inr ⟨H, C, hH, hk.1, hC, hk.2, fun post h => ?_, fun post h => dm_keep hN hH hk.1 hC hB hY hS hk.2 h⟩
    unfold wpX_grant
    exact br_f (nI_nle hk.1 (by omega)) (dm_xready (by omega) hB hX hS (fun _ => br_f (by decide) h) (fun n => absurd hk.2 n))
  · obtain ⟨gx, gy⟩ := go hk
    have sc := dm_scan (f0 := f0) (f1 := f1) (f2 := f2) (f3 := f3) (f4 := f4) (f5 := f5) (cr := nI C) (ev := ev) (wd := wd) (md := md) (mv := mv) (de := de) (me := me) hN hH hB hX hY hS hW N 0 (Nat.zero_add N)
    rw [e0] at sc
    rcases sc with ⟨a, b⟩ | ⟨H', C', a1, a2, a3, a4, a5, a6⟩
    · exact Or.inl ⟨fun post h => gx post (a post h), fun post h => gy post (b post h)⟩
    · exact Or.inr ⟨H', C', a1, a2, a3, a4, fun post h => gx post (a5 post h), fun post h => gy post (a6 post h)⟩
end
end
section
/-! ===== completion, frames, latch ===== -/
theorem dm_n0 : vp_nar .boolean 0 = 0 := rfl
theorem dm_n1 : vp_nar .boolean 1 = 1 := rfl
theorem dm_uu (f : Nat → Int32) (k : Nat) (x y : Int32) : upd (upd f k x) k y = upd f k y := by
  funext j
  by_cases e : j = k
  · subst e; rw [pk_us, pk_us]
  · rw [pk_un e, pk_un e, pk_un e]
theorem dm_usame {f : Nat → Int32} {k : Nat} {x : Int32} (h : f k = x) : upd f k x = f := by
  funext j
  by_cases e : j = k
  · subst e; rw [pk_us, h]
  · rw [pk_un e]
def dm_cev (ev b : Int32) (c : Nat) : Int32 := if b &&& 8 = 0 then ev else ev ||| ((1 : Int32) <<< (nI c &&& 31))
def dm_cde (de : Nat → Int32) (b n : Int32) (c : Nat) : Nat → Int32 := if b &&& 4 = 0 then upd de c n else de
def dm_cst (st : Nat → Int32) (b : Int32) (c : Nat) : Nat → Int32 := if b &&& 4 = 0 then st else upd st c 3
section
variable {f0 f1 f2 f3 f4 f5 nn ho cr ev : Int32} {wd md st wt de mv ld rs rd rl co le ss ds nx ct me dc kk : Nat → Int32} {N H C : Nat} {B Q P : Nat → Nat} {c : Nat}
theorem dm_FS_c {b : Int32} {d : Nat} (h : dm_FS st wt de) (hd : d < 256) : dm_FS (dm_cst st b c) wt (dm_cde de b (nI d) c) := by
  unfold dm_cst dm_cde
  by_cases z : b &&& 4 = 0
  · rw [if_pos z, if_pos z]; exact dm_FS_de h hd
  · rw [if_neg z, if_neg z]; exact dm_FS_st (s := 3) h (by decide)
theorem dm_xcomplete {post : SX → Prop} {b n : Int32} (hc : c < 4) (eb : ct c = b) (en : nx c = n) (h : post (f0, f1, f2, f3, f4, f5, nn, ho, cr, dm_cev ev b c, wd, md, dm_cst st b c, wt, dm_cde de b n c, mv, upd ld c 0, rs, rd, rl, co, le, ss, ds, nx, ct)) : wpX_complete post (f0, f1, f2, f3, f4, f5, nn, ho, cr, ev, wd, md, st, wt, de, mv, ld, rs, rd, rl, co, le, ss, ds, nx, ct) (nI c) := by
  have v4 : vp_in (nI c) 4 := vp_in_nI hc (by decide)
  have ecl : (nI c).toNatClampNeg = c := nI_clamp (by omega)
  have K : ∀ e2, e2 = dm_cev ev b c → wX_complete_31 post (nI c) f0 f1 f2 f3 f4 f5 nn ho cr e2 wd md st wt de mv (upd ld c 0) rs rd rl co le ss ds nx ct := by
    intro e2 he
    unfold wX_complete_31
    rw [ecl, eb, en, he]
    unfold dm_cst dm_cde at h
    refine ⟨v4, br_c (fun z => ⟨v4, v4, nm_e ?_⟩) (fun z => ⟨v4, nm_e ?_⟩)⟩
    · rw [if_pos z, if_pos z] at h; exact h
    · rw [if_neg z, if_neg z] at h; exact h
  unfold wpX_complete
  refine ⟨v4, nm_r (e' := upd ld c 0) (by rw [ecl, dm_n0]) ⟨v4, ?_⟩⟩
  rw [ecl, eb]
  refine br_c (fun z => K ev ?_) (fun z => nm_e (K _ ?_))
  · unfold dm_cev; rw [if_pos z]
  · unfold dm_cev; rw [if_neg z]
theorem dm_ycomp {post : SY → Prop} {k : Nat} (hc : c < 4) (hd : ∀ i, i < 32 → dc i = nI (B i)) (ek : kk c = nI k) (hk : k < 2 ^ 31) (hL : dm_L B c < 256)
    (h1 : k = dm_T B c → post (nn, ho, cr, dm_cev ev (nI (B (8 * c))) c, me, md, dm_cst st (nI (B (8 * c))) c, wt, dm_cde de (nI (B (8 * c))) (nI (B (8 * c + 7))) c, mv, upd ld c 0, dc, kk)) (h0 : k ≠ dm_T B c → post (nn, ho, cr, ev, me, md, st, wt, de, mv, ld, dc, kk)) : wpY_completeAtEnd post (nn, ho, cr, ev, me, md, st, wt, de, mv, ld, dc, kk) (nI c) := by
  have v4 : vp_in (nI c) 4 := vp_in_nI hc (by decide)
  have ecl : (nI c).toNatClampNeg = c := nI_clamp (by omega)
  have e7 : (8 : Int32) * nI c + 7 = nI (8 * c + 7) := by rw [dm_8]; exact nI_add (8 * c) 7
  have v8 : vp_in (nI (8 * c)) 32 := vp_in_nI (by omega) (by decide)
  have hT := dm_T_lt hL
  unfold wpY_completeAtEnd
  refine dm_ytotal hc hd ⟨v4, ?_⟩
  rw [ecl, ek]
  refine pk_eq k (dm_T B c) (fun z => ⟨v4, ?_⟩) h0
  have h := h1 z
  have K : ∀ e2, e2 = dm_cev ev (nI (B (8 * c))) c → wY_completeAtEnd_51 post (nI c) nn ho cr e2 me md st wt de mv (upd ld c 0) dc kk := by
    intro e2 he
    unfold wY_completeAtEnd_51
    rw [ecl, e7, dm_8, nI_clamp (n := 8 * c) (by omega), nI_clamp (n := 8 * c + 7) (by omega), hd (8 * c) (by omega), hd (8 * c + 7) (by omega), he]
    unfold dm_cst dm_cde at h
    refine ⟨v8, br_c (fun z => ⟨vp_in_nI (by omega) (by decide), v4, nm_e ?_⟩) (fun z => ⟨v4, nm_e ?_⟩)⟩
    · rw [if_pos z, if_pos z] at h; exact h
    · rw [if_neg z, if_neg z] at h; exact h
  refine nm_r (e' := upd ld c 0) (by rw [dm_n0]) ?_
  rw [dm_8, nI_clamp (n := 8 * c) (by omega), hd (8 * c) (by omega)]
  refine ⟨v8, br_c (fun z => K ev ?_) (fun z => nm_e (K _ ?_))⟩
  · unfold dm_cev; rw [if_pos z]
  · unfold dm_cev; rw [if_neg z]
end
/-! frames -/
def dm_nu (f : Nat → Nat) (c v : Nat) : Nat → Nat := fun e => if e = c then v else f e
theorem dm_nu_s {f : Nat → Nat} {c v : Nat} : dm_nu f c v c = v := if_pos rfl
theorem dm_nu_n {f : Nat → Nat} {c v e : Nat} (h : e ≠ c) : dm_nu f c v e = f e := if_neg h
section
variable {B B' : Nat → Nat} {e : Nat}
theorem dm_L_cg (h : ∀ j, j < 8 → B' (8 * e + j) = B (8 * e + j)) : dm_L B' e = dm_L B e := h 3 (by decide)
theorem dm_R_cg (h : ∀ j, j < 8 → B' (8 * e + j) = B (8 * e + j)) : dm_R B' e = dm_R B e := by
  have h0 : B' (8 * e) = B (8 * e) := h 0 (by decide)
  unfold dm_R
  rw [h0, h 4 (by decide)]
theorem dm_S_cg {s : Nat} (hs : s < 4) (h : ∀ j, j < 8 → B' (8 * e + j) = B (8 * e + j)) : dm_S B' e s = dm_S B e s := by
  have h0 : B' (8 * e) = B (8 * e) := h 0 (by decide)
  unfold dm_S
  rw [h0, Nat.add_assoc, h (4 + s) (by omega)]
end
section
variable {f0 f1 f2 f3 f4 f5 nn ho cr ev : Int32} {wd md st wt de mv ld rs rd rl co le ss ds nx ct me dc kk : Nat → Int32} {B Q P B' Q' P' : Nat → Nat} {rs' rd' rl' co' le' ss' ds' nx' ct' : Nat → Int32} {e : Nat}
theorem dm_K_cg (h : ∀ j, j < 8 → B' (8 * e + j) = B (8 * e + j)) (hq : Q' e = Q e) (hp : P' e = P e) : dm_K B' Q' P' e = dm_K B Q P e := by
  unfold dm_K
  rw [dm_L_cg h, hq, hp]
theorem dm_CX_cg (h : ∀ j, j < 8 → B' (8 * e + j) = B (8 * e + j)) (hq : Q' e = Q e) (hp : P' e = P e) (e1 : rs' e = rs e) (e2 : rd' e = rd e) (e3 : rl' e = rl e) (e4 : co' e = co e) (e5 : le' e = le e) (e6 : ss' e = ss e) (e7 : ds' e = ds e) (e8 : nx' e = nx e) (e9 : ct' e = ct e)
    (g : dm_CX B Q P rs rd rl co le ss ds nx ct e) : dm_CX B' Q' P' rs' rd' rl' co' le' ss' ds' nx' ct' e := by
  have h0 : B' (8 * e) = B (8 * e) := h 0 (by decide)
  unfold dm_CX
  rw [h 1 (by decide), h 2 (by decide), h 7 (by decide), h0, dm_S_cg (by decide) h, dm_S_cg (by decide) h, dm_R_cg h, dm_L_cg h, hq, hp, e1, e2, e3, e4, e5, e6, e7, e8, e9]
  exact g
end
section
variable {f0 f1 f2 f3 f4 f5 nn ho cr ev : Int32} {wd md st wt de mv ld rs rd rl co le ss ds nx ct me dc kk : Nat → Int32} {N H C : Nat} {B Q P : Nat → Nat} {c : Nat}
/-- the component's latch of a descriptor of kind 1 or 2 -/
theorem dm_xlatch {post : SX → Prop} {lo hi : Int32} (hc : c < 4) (h1 : ∀ j, j < 4 → dm_by lo j = B (8 * c + j)) (h2 : ∀ j, j < 4 → dm_by hi j = B (8 * c + 4 + j)) (hk : B (8 * c) % 4 = 1 ∨ B (8 * c) % 4 = 2)
    (k1 : 0 < dm_L B c → 0 < dm_R B c → post (f0, f1, f2, f3, f4, f5, nn, ho, cr, ev, wd, md, st, wt, de, mv, upd ld c 1, upd rs c (nI (B (8 * c + 1))), upd rd c (nI (B (8 * c + 2))), upd rl c (nI (dm_R B c)), upd co c 0, upd le c (nI (dm_L B c)), upd ss c (nI (dm_S B c 1)), upd ds c (nI (dm_S B c 2)), upd nx c (nI (B (8 * c + 7))), upd ct c (nI (B (8 * c)))))
    (k0 : dm_L B c = 0 ∨ dm_R B c = 0 → post (f0, f1, f2, f3, f4, f5, nn, ho, cr, dm_cev ev (nI (B (8 * c))) c, wd, md, dm_cst st (nI (B (8 * c))) c, wt, dm_cde de (nI (B (8 * c))) (nI (B (8 * c + 7))) c, mv, upd ld c 0, upd rs c (nI (B (8 * c + 1))), upd rd c (nI (B (8 * c + 2))), upd rl c (nI (dm_R B c)), upd co c 0, upd le c (nI (dm_L B c)), upd ss c (nI (dm_S B c 1)), upd ds c (nI (dm_S B c 2)), upd nx c (nI (B (8 * c + 7))), upd ct c (nI (B (8 * c))))) :
    wpX_latch post (f0, f1, f2, f3, f4, f5, nn, ho, cr, ev, wd, md, st, wt, de, mv, ld, rs, rd, rl, co, le, ss, ds, nx, ct) (nI c) lo hi := by
  have v4 : vp_in (nI c) 4 := vp_in_nI hc (by decide)
  have ecl : (nI c).toNatClampNeg = c := nI_clamp (by omega)
  have b0 : lo &&& 255 = nI (B (8 * c)) := by rw [dm_b0, h1 0 (by decide)]; rfl
  have b1 : ((lo.toUInt32 >>> ((8 : Int32).toUInt32 &&& Int32.toUInt32 31)).toInt32) &&& 255 = nI (B (8 * c + 1)) := by rw [← h1 1 (by decide)]; exact dm_bs lo (s := 1) (by decide)
  have b2 : ((lo.toUInt32 >>> ((16 : Int32).toUInt32 &&& Int32.toUInt32 31)).toInt32) &&& 255 = nI (B (8 * c + 2)) := by rw [← h1 2 (by decide)]; exact dm_bs lo (s := 2) (by decide)
  have b3 : (lo.toUInt32 >>> ((24 : Int32).toUInt32 &&& Int32.toUInt32 31)).toInt32 = nI (dm_L B c) := by rw [dm_b3, h1 3 (by decide)]; rfl
  have c0 : hi &&& 7 = nI (B (8 * c + 4) % 8) := by rw [dm_k7, h2 0 (by decide)]
  have c1 : ((hi.toUInt32 >>> ((8 : Int32).toUInt32 &&& Int32.toUInt32 31)).toInt32) &&& 255 = nI (B (8 * c + 4 + 1)) := by rw [← h2 1 (by decide)]; exact dm_bs hi (s := 1) (by decide)
  have c2 : ((hi.toUInt32 >>> ((16 : Int32).toUInt32 &&& Int32.toUInt32 31)).toInt32) &&& 255 = nI (B (8 * c + 4 + 2)) := by rw [← h2 2 (by decide)]; exact dm_bs hi (s := 2) (by decide)
  have c3 : (hi.toUInt32 >>> ((24 : Int32).toUInt32 &&& Int32.toUInt32 31)).toInt32 = nI (B (8 * c + 7)) := by rw [dm_b3, h2 3 (by decide)]
  have hLb : dm_L B c < 256 := by have := dm_by_lt lo 3; rw [h1 3 (by decide)] at this; exact this
  have hR := dm_R_lt B c
  have W127 : ∀ z, z = nI (dm_S B c 2) → wX_latch_127 post (nI c) hi z (nI c) f0 f1 f2 f3 f4 f5 nn ho cr ev wd md st wt de mv ld (upd rs c (nI (B (8 * c + 1)))) (upd rd c (nI (B (8 * c + 2)))) (upd rl c (nI (dm_R B c))) co (upd le c (nI (dm_L B c))) (upd ss c (nI (dm_S B c 1))) ds nx (upd ct c (nI (B (8 * c)))) := by
    intro z hz
    subst hz
    have cm : dm_L B c = 0 ∨ dm_R B c = 0 → wX_latch_163 post (nI c) f0 f1 f2 f3 f4 f5 nn ho cr ev wd md st wt de mv ld (upd rs c (nI (B (8 * c + 1)))) (upd rd c (nI (B (8 * c + 2)))) (upd rl c (nI (dm_R B c))) (upd co c 0) (upd le c (nI (dm_L B c))) (upd ss c (nI (dm_S B c 1))) (upd ds c (nI (dm_S B c 2))) (upd nx c (nI (B (8 * c + 7)))) (upd ct c (nI (B (8 * c)))) := by
      intro y
      unfold wX_latch_163
      exact dm_xcomplete hc pk_us pk_us (k0 y)
    unfold wX_latch_127
    rw [ecl, c3]
    refine ⟨v4, nm_e ⟨v4, nm_e ⟨v4, nm_e ⟨v4, ?_⟩⟩⟩⟩
    rw [pk_us, pk_us, dm_n1]
    refine pk_eq (dm_L B c) 0 (fun y => cm (Or.inl y)) (fun y => ⟨v4, pk_eq (dm_R B c) 0 (fun x => cm (Or.inr x)) (fun x => ⟨v4, nm_e (k1 (by omega) (by omega))⟩)⟩)
  have W104 : ∀ z x4, z = nI (dm_S B c 1) → (x4 = 0 ∧ B (8 * c) % 4 = 1 ∨ x4 = 1 ∧ ¬ B (8 * c) % 4 = 1) → wX_latch_104 post (nI c) hi x4 z (nI c) f0 f1 f2 f3 f4 f5 nn ho cr ev wd md st wt de mv ld (upd rs c (nI (B (8 * c + 1)))) (upd rd c (nI (B (8 * c + 2)))) (upd rl c (nI (dm_R B c))) co (upd le c (nI (dm_L B c))) ss ds nx (upd ct c (nI (B (8 * c)))) := by
    intro z x4 hz hx
    subst hz
    unfold wX_latch_104
    rw [ecl, c2]
    refine ⟨v4, nm_e ?_⟩
    rcases hx with ⟨rfl, hx⟩ | ⟨rfl, hx⟩
    · refine br_t rfl (W127 _ ?_)
      unfold dm_S; rw [if_pos hx]; rfl
    · refine br_f (by decide) (W127 _ ?_)
      unfold dm_S; rw [if_neg hx]
  have W81 : ∀ z x4, z = nI (dm_R B c) → (x4 = 0 ∧ B (8 * c) % 4 = 1 ∨ x4 = 1 ∧ ¬ B (8 * c) % 4 = 1) → wX_latch_81 post (nI c) hi x4 z (nI c) f0 f1 f2 f3 f4 f5 nn ho cr ev wd md st wt de mv ld (upd rs c (nI (B (8 * c + 1)))) (upd rd c (nI (B (8 * c + 2)))) rl co (upd le c (nI (dm_L B c))) ss ds nx (upd ct c (nI (B (8 * c)))) := by
    intro z x4 hz hx
    subst hz
    unfold wX_latch_81
    rw [ecl, c1]
    refine ⟨v4, nm_e ?_⟩
    rcases hx with ⟨rfl, hx⟩ | ⟨rfl, hx⟩
    · refine br_t rfl (W104 _ _ ?_ (Or.inl ⟨rfl, hx⟩))
      unfold dm_S; rw [if_pos hx]; rfl
    · refine br_f (by decide) (W104 _ _ ?_ (Or.inr ⟨rfl, hx⟩))
      unfold dm_S; rw [if_neg hx]
  have W12 : ∀ x4, (x4 = 0 ∧ B (8 * c) % 4 = 1 ∨ x4 = 1 ∧ ¬ B (8 * c) % 4 = 1) → wX_latch_12 post (nI c) lo hi x4 f0 f1 f2 f3 f4 f5 nn ho cr ev wd md st wt de mv ld rs rd rl co le ss ds nx ct := by
    intro x4 hx
    unfold wX_latch_12
    rw [ecl, b0, b1, b2, b3, c0]
    refine ⟨v4, nm_e ⟨v4, nm_e ⟨v4, nm_e ⟨v4, nm_e ?_⟩⟩⟩⟩
    rcases hx with ⟨rfl, hx⟩ | ⟨rfl, hx⟩
    · refine br_t rfl (W81 _ _ ?_ (Or.inl ⟨rfl, hx⟩))
      unfold dm_R; rw [if_pos hx]; rfl
    · refine br_f (by decide) (W81 _ _ ?_ (Or.inr ⟨rfl, hx⟩))
      unfold dm_R; rw [if_neg hx]
  unfold wpX_latch
  rw [dm_k3, h1 0 (by decide), Nat.add_zero]
  refine pk_eq (B (8 * c) % 4) 2 (fun z => W12 1 (Or.inr ⟨rfl, by omega⟩)) (fun z => W12 0 (Or.inl ⟨rfl, by omega⟩))
end
end
section
/-! ===== fetch ===== -/
def dm_rb (md : Nat → Int32) (a : Nat) : Prop := ¬ (md (a / 16) &&& 1) = 0
def dm_wb (md : Nat → Int32) (a : Nat) : Prop := ¬ (md (a / 16) &&& 2) = 0
def dm_op (md : Nat → Int32) (A : Nat) : Prop := ∀ i, i < 8 → dm_rb md ((A + i) % 256)
theorem dm_op_iff {md : Nat → Int32} {A : Nat} (hA : A < 256) : dm_op md A ↔ dm_rb md A ∧ dm_rb md ((A + 7) % 256) := by
  constructor
  · intro h
    have h0 := h 0 (by decide)
    rw [Nat.add_zero, Nat.mod_eq_of_lt hA] at h0
    exact ⟨h0, h 7 (by decide)⟩
  · rintro ⟨h0, h7⟩ i hi
    unfold dm_rb at h0 h7 ⊢
    have : (A + i) % 256 / 16 = A / 16 ∨ (A + i) % 256 / 16 = (A + 7) % 256 / 16 := by omega
    rcases this with e | e
    · rw [e]; exact h0
    · rw [e]; exact h7
def dm_dcs (dc me : Nat → Int32) (A c : Nat) : Nat → (Nat → Int32)
  | 0 => dc
  | j + 1 => upd (dm_dcs dc me A c j) (8 * c + j) (me ((A + j) % 256))
theorem dm_dcs_at (dc me : Nat → Int32) (A c : Nat) : ∀ j i, dm_dcs dc me A c j i = if 8 * c ≤ i ∧ i < 8 * c + j then me ((A + (i - 8 * c)) % 256) else dc i
  | 0, i => by
    rw [if_neg (by omega)]; rfl
  | j + 1, i => by
    show upd (dm_dcs dc me A c j) (8 * c + j) (me ((A + j) % 256)) i = _
    by_cases e : i = 8 * c + j
    · subst e
      rw [pk_us, if_pos (by omega), Nat.add_sub_cancel_left]
    · rw [pk_un e, dm_dcs_at dc me A c j i]
      by_cases g : 8 * c ≤ i ∧ i < 8 * c + j
      · rw [if_pos g, if_pos (by omega)]
      · rw [if_neg g, if_neg (by omega)]
def dm_nb (f B : Nat → Nat) (A c : Nat) : Nat → Nat := fun i => if i / 8 = c then f ((A + i % 8) % 256) else B i
theorem dm_nb_c {f B : Nat → Nat} {A c j : Nat} (hj : j < 8) : dm_nb f B A c (8 * c + j) = f ((A + j) % 256) := by
  unfold dm_nb
  rw [if_pos (by omega), show (8 * c + j) % 8 = j from by omega]
theorem dm_nb_o {f B : Nat → Nat} {A c e : Nat} (he : e ≠ c) : ∀ j, j < 8 → dm_nb f B A c (8 * e + j) = B (8 * e + j) := by
  intro j hj
  unfold dm_nb
  rw [if_neg (by omega)]
theorem dm_nb_lt {f B : Nat → Nat} {A c : Nat} (hf : ∀ a, f a < 256) (hb : ∀ i, i < 32 → B i < 256) : ∀ i, i < 32 → dm_nb f B A c i < 256 := by
  intro i hi
  unfold dm_nb
  by_cases g : i / 8 = c
  · rw [if_pos g]; exact hf _
  · rw [if_neg g]; exact hb i hi
theorem dm_dcs_nb {f B : Nat → Nat} {dc me : Nat → Int32} {A c : Nat} (hm : ∀ a, a < 256 → me a = nI (f a)) (hd : ∀ i, i < 32 → dc i = nI (B i)) : ∀ i, i < 32 → dm_dcs dc me A c 8 i = nI (dm_nb f B A c i) := by
  intro i hi
  rw [dm_dcs_at]
  unfold dm_nb
  by_cases g : i / 8 = c
  · rw [if_pos (by omega), if_pos g, hm _ (by omega), show i - 8 * c = i % 8 from by omega]
  · rw [if_neg (by omega), if_neg g, hd i hi]
section
variable {f0 f1 f2 f3 f4 f5 nn ho cr ev : Int32} {wd md st wt de mv ld rs rd rl co le ss ds nx ct me dc kk : Nat → Int32} {N H C : Nat} {B Q P : Nat → Nat} {c A : Nat}
theorem dm_xrd {post : Int32 → Prop} {p : Int32} {a : Nat} (ha : a < 256) (hp : p &&& 255 = nI a) (h1 : dm_rb md a → post 1) (h0 : ¬ dm_rb md a → post 0) : wpX_isReadable post (f0, f1, f2, f3, f4, f5, nn, ho, cr, ev, wd, md, st, wt, de, mv, ld, rs, rd, rl, co, le, ss, ds, nx, ct) p := by
  unfold wpX_isReadable
  rw [hp, dm_sr4 (by omega), nI_clamp (by omega)]
  exact ⟨vp_in_nI (by omega) (by decide), br_c (fun z => h0 (fun y => y z)) (fun z => h1 z)⟩
theorem dm_xwr {post : Int32 → Prop} {p : Int32} {a : Nat} (ha : a < 256) (hp : p &&& 255 = nI a) (h1 : dm_wb md a → post 1) (h0 : ¬ dm_wb md a → post 0) : wpX_isWritable post (f0, f1, f2, f3, f4, f5, nn, ho, cr, ev, wd, md, st, wt, de, mv, ld, rs, rd, rl, co, le, ss, ds, nx, ct) p := by
  unfold wpX_isWritable
  rw [hp, dm_sr4 (by omega), nI_clamp (by omega)]
  exact ⟨vp_in_nI (by omega) (by decide), br_c (fun z => h0 (fun y => y z)) (fun z => h1 z)⟩
/-- the component's fetch, by its six outcomes -/
theorem dm_xfetch {post : SX → Prop} (hc : c < 4) (hA : A < 256) (eA : de c = nI A) (hcc : ∀ j, j < 8 → B (8 * c + j) = dm_lb wd ((A + j) % 256))
    (k5 : ¬ dm_op md A → post (f0, f1, f2, f3, f4, f5, nn, ho, cr, ev, wd, md, upd st c 5, wt, de, mv, ld, rs, rd, rl, co, le, ss, ds, nx, ct))
    (k0 : dm_op md A → B (8 * c) % 4 = 0 → post (f0, f1, f2, f3, f4, f5, nn, ho, cr, ev, wd, md, upd st c 3, wt, de, mv, ld, rs, rd, rl, co, le, ss, ds, nx, ct))
    (ke : dm_op md A → B (8 * c) % 4 = 3 → ¬ dm_rb md (B (8 * c + 1)) → post (f0, f1, f2, f3, f4, f5, nn, ho, cr, ev, wd, md, upd st c 5, wt, de, mv, ld, rs, rd, rl, co, le, ss, ds, nx, ct))
    (k3 : dm_op md A → B (8 * c) % 4 = 3 → dm_rb md (B (8 * c + 1)) → post (f0, f1, f2, f3, f4, f5, nn, ho, cr, ev, wd, md, st, wt, upd de c (nI (dm_lb wd (B (8 * c + 1)))), mv, ld, rs, rd, rl, co, le, ss, ds, nx, ct))
    (kl : dm_op md A → (B (8 * c) % 4 = 1 ∨ B (8 * c) % 4 = 2) → 0 < dm_L B c → 0 < dm_R B c → post (f0, f1, f2, f3, f4, f5, nn, ho, cr, ev, wd, md, st, wt, de, mv, upd ld c 1, upd rs c (nI (B (8 * c + 1))), upd rd c (nI (B (8 * c + 2))), upd rl c (nI (dm_R B c)), upd co c 0, upd le c (nI (dm_L B c)), upd ss c (nI (dm_S B c 1)), upd ds c (nI (dm_S B c 2)), upd nx c (nI (B (8 * c + 7))), upd ct c (nI (B (8 * c)))))
    (kc : dm_op md A → (B (8 * c) % 4 = 1 ∨ B (8 * c) % 4 = 2) → (dm_L B c = 0 ∨ dm_R B c = 0) → post (f0, f1, f2, f3, f4, f5, nn, ho, cr, dm_cev ev (nI (B (8 * c))) c, wd, md, dm_cst st (nI (B (8 * c))) c, wt, dm_cde de (nI (B (8 * c))) (nI (B (8 * c + 7))) c, mv, upd ld c 0, upd rs c (nI (B (8 * c + 1))), upd rd c (nI (B (8 * c + 2))), upd rl c (nI (dm_R B c)), upd co c 0, upd le c (nI (dm_L B c)), upd ss c (nI (dm_S B c 1)), upd ds c (nI (dm_S B c 2)), upd nx c (nI (B (8 * c + 7))), upd ct c (nI (B (8 * c))))) :
    wpX_fetch post (f0, f1, f2, f3, f4, f5, nn, ho, cr, ev, wd, md, st, wt, de, mv, ld, rs, rd, rl, co, le, ss, ds, nx, ct) (nI c) := by
  have v4 : vp_in (nI c) 4 := vp_in_nI hc (by decide)
  have ecl : (nI c).toNatClampNeg = c := nI_clamp (by omega)
  have e7 : (nI A + 7) &&& 255 = nI ((A + 7) % 256) := by
    rw [show (7 : Int32) = nI 7 from rfl, nI_add, dm_a255]
  have e4 : (nI A + 4) &&& 255 = nI ((A + 4) % 256) := by
    rw [show (4 : Int32) = nI 4 from rfl, nI_add, dm_a255]
  have e43 : (nI A + 4) &&& 3 = nI ((A + 4) % 256 % 4) := by
    rw [show (4 : Int32) = nI 4 from rfl, nI_add, dm_a3]
    exact congrArg nI (by omega)
  have e0 : nI A &&& 255 = nI A := by rw [dm_a255, Nat.mod_eq_of_lt hA]
  have oi := dm_op_iff (md := md) hA
  unfold wpX_fetch
  refine ⟨v4, ?_⟩
  rw [ecl, eA]
  refine nm_e ?_
  refine dm_xrd hA e0 (fun r0 => br_f (by decide) ?_) (fun r0 => br_t rfl ⟨v4, nm_e (k5 (fun z => r0 (oi.mp z).1))⟩)
  refine dm_xrd (by omega) e7 (fun r7 => br_f (by decide) ?_) (fun r7 => br_t rfl ⟨v4, nm_e (k5 (fun z => r7 (oi.mp z).2))⟩)
  have op : dm_op md A := oi.mpr ⟨r0, r7⟩
  refine dm_xloadWord hA e0 (dm_a3 A) ?_
  intro lo hlo
  refine dm_xloadWord (A := (A + 4) % 256) (by omega) e4 e43 ?_
  intro hi hhi
  have h1 : ∀ j, j < 4 → dm_by lo j = B (8 * c + j) := fun j hj => by rw [hlo j hj, hcc j (by omega)]
  have h2 : ∀ j, j < 4 → dm_by hi j = B (8 * c + 4 + j) := fun j hj => by
    rw [hhi j hj, Nat.add_assoc (8 * c) 4 j, hcc (4 + j) (by omega)]
    exact congrArg (dm_lb wd) (by omega)
  have h10 : dm_by lo 0 = B (8 * c) := h1 0 (by decide)
  rw [dm_k3, h10]
  refine nm_e (pk_eq (B (8 * c) % 4) 0 (fun z => ⟨v4, nm_e (k0 op z)⟩) (fun z => pk_eq (B (8 * c) % 4) 3 (fun y => ?_) (fun y => ?_)))
  · have b1 : ((lo.toUInt32 >>> ((8 : Int32).toUInt32 &&& Int32.toUInt32 31)).toInt32) &&& 255 = nI (B (8 * c + 1)) := by rw [← h1 1 (by decide)]; exact dm_bs lo (s := 1) (by decide)
    have bl : B (8 * c + 1) < 256 := by rw [← h1 1 (by decide)]; exact dm_by_lt _ _
    rw [b1]
    have e1 : nI (B (8 * c + 1)) &&& 255 = nI (B (8 * c + 1)) := by rw [dm_a255, Nat.mod_eq_of_lt bl]
    unfold wpX_followLink
    refine dm_xrd bl e1 (fun x => br_f (by decide) ?_) (fun x => br_t rfl ⟨v4, ?_⟩)
    · refine dm_xload bl e1 (dm_a3 _) ⟨v4, ?_⟩
      rw [ecl]
      exact nm_e (k3 op y x)
    · rw [ecl]
      exact nm_e (ke op y x)
  · exact dm_xlatch hc h1 h2 (by omega) (kl op (by omega)) (kc op (by omega))
/-- the reference's fetch: eight bytes, then by the same outcomes -/
theorem dm_yloop {post : SY → Prop} (hc : c < 4) (hA : A < 256) (eA : de c = nI A)
    (h1 : dm_op md A → wY_fetch_4 post (nI c) nn ho cr ev 1 1 (nI 8) me md st wt de mv ld (dm_dcs dc me A c 8) kk) (h0 : ¬ dm_op md A → wY_fetch_4 post (nI c) nn ho cr ev 1 0 (nI 8) me md st wt de mv ld (dm_dcs dc me A c 8) kk) : wpY_fetch post (nn, ho, cr, ev, me, md, st, wt, de, mv, ld, dc, kk) (nI c) := by
  have v4 : vp_in (nI c) 4 := vp_in_nI hc (by decide)
  have ecl : (nI c).toNatClampNeg = c := nI_clamp (by omega)
  have key : ∀ m j x2, j + m = 8 → ((x2 = 1 ∧ ∀ i, i < j → dm_rb md ((A + i) % 256)) ∨ (x2 = 0 ∧ ¬ ∀ i, i < j → dm_rb md ((A + i) % 256))) → wY_fetch_4 post (nI c) nn ho cr ev (m + 1) x2 (nI j) me md st wt de mv ld (dm_dcs dc me A c j) kk := by
    intro m
    induction m with
    | zero =>
      intro j x2 hj hx
      have e : j = 8 := by omega
      subst e
      rcases hx with ⟨rfl, hx⟩ | ⟨rfl, hx⟩
      · exact h1 hx
      · exact h0 hx
    | succ m ih =>
      intro j x2 hj hx
      have e8 : (8 : Int32) * nI c + nI j = nI (8 * c + j) := by rw [dm_8, nI_add]
      have st40 : ∀ x2', ((x2' = 1 ∧ ∀ i, i < j + 1 → dm_rb md ((A + i) % 256)) ∨ (x2' = 0 ∧ ¬ ∀ i, i < j + 1 → dm_rb md ((A + i) % 256))) → wY_fetch_40 post (wY_fetch_4 post (nI c) nn ho cr ev (m + 1)) (nI c) x2' (nI j) (nI ((A + j) % 256)) nn ho cr ev me md st wt de mv ld (dm_dcs dc me A c j) kk := by
        intro x2' hx'
        unfold wY_fetch_40
        rw [e8, nI_clamp (n := 8 * c + j) (by omega), nI_clamp (n := (A + j) % 256) (by omega)]
        exact ⟨vp_in_nI (by omega) (by decide), vp_in_nI (by omega) (by decide), nm_e (nm_r (nI_1 j) (ih (j + 1) x2' (by omega) hx'))⟩
      refine br_f (nI_ge (b := 8) (by omega) (by decide)) ⟨v4, ?_⟩
      rw [ecl, eA, nI_add, dm_a255]
      refine nm_e ?_
      rw [dm_sr4 (by omega), nI_clamp (n := (A + j) % 256 / 16) (by omega)]
      refine ⟨vp_in_nI (by omega) (by decide), br_c (fun z => st40 0 (Or.inr ⟨rfl, fun q => q j (by omega) z⟩)) (fun z => st40 x2 ?_)⟩
      rcases hx with ⟨e, hx⟩ | ⟨e, hx⟩
      · refine Or.inl ⟨e, fun i hi => ?_⟩
        by_cases q : i = j
        · subst q; exact z
        · exact hx i (by omega)
      · exact Or.inr ⟨e, fun q => hx (fun i hi => q i (by omega))⟩
  exact ⟨9, key 8 0 1 rfl (Or.inl ⟨rfl, fun i hi => by omega⟩)⟩
theorem dm_yex0 {post : SY → Prop} (hc : c < 4) (h : post (nn, ho, cr, ev, me, md, upd st c 5, wt, de, mv, ld, dc, kk)) : wY_fetch_4 post (nI c) nn ho cr ev 1 0 (nI 8) me md st wt de mv ld dc kk := by
  have v4 : vp_in (nI c) 4 := vp_in_nI hc (by decide)
  have ecl : (nI c).toNatClampNeg = c := nI_clamp (by omega)
  have e1 : (8 : Int32) * nI c + 1 = nI (8 * c + 1) := by rw [dm_8]; exact nI_add (8 * c) 1
  refine br_t (by decide) ?_
  rw [e1, dm_8]
  refine ⟨vp_in_nI (by omega) (by decide), nm_e ⟨vp_in_nI (by omega) (by decide), nm_e (br_t rfl ⟨v4, ?_⟩)⟩⟩
  rw [ecl]
  exact nm_e h
theorem dm_yex1 {post : SY → Prop} (hc : c < 4) (hb : ∀ i, i < 32 → B i < 256) (hd : ∀ i, i < 32 → dc i = nI (B i))
    (k0 : B (8 * c) % 4 = 0 → post (nn, ho, cr, ev, me, md, upd st c 3, wt, de, mv, ld, dc, kk))
    (ke : B (8 * c) % 4 = 3 → ¬ dm_rb md (B (8 * c + 1)) → post (nn, ho, cr, ev, me, md, upd st c 5, wt, de, mv, ld, dc, kk))
    (k3 : B (8 * c) % 4 = 3 → dm_rb md (B (8 * c + 1)) → post (nn, ho, cr, ev, me, md, st, wt, upd de c (me (B (8 * c + 1))), mv, ld, dc, kk))
    (kl : (B (8 * c) % 4 = 1 ∨ B (8 * c) % 4 = 2) → 0 < dm_L B c → 0 < dm_R B c → post (nn, ho, cr, ev, me, md, st, wt, de, mv, upd ld c 1, dc, upd kk c 0))
    (kc : (B (8 * c) % 4 = 1 ∨ B (8 * c) % 4 = 2) → (dm_L B c = 0 ∨ dm_R B c = 0) → post (nn, ho, cr, dm_cev ev (nI (B (8 * c))) c, me, md, dm_cst st (nI (B (8 * c))) c, wt, dm_cde de (nI (B (8 * c))) (nI (B (8 * c + 7))) c, mv, upd ld c 0, dc, upd kk c 0)) : wY_fetch_4 post (nI c) nn ho cr ev 1 1 (nI 8) me md st wt de mv ld dc kk := by
  have v4 : vp_in (nI c) 4 := vp_in_nI hc (by decide)
  have ecl : (nI c).toNatClampNeg = c := nI_clamp (by omega)
  have e1 : (8 : Int32) * nI c + 1 = nI (8 * c + 1) := by rw [dm_8]; exact nI_add (8 * c) 1
  have bl := hb (8 * c + 1) (by omega)
  refine br_t (by decide) ?_
  rw [e1, dm_8, nI_clamp (n := 8 * c) (by omega), nI_clamp (n := 8 * c + 1) (by omega), hd (8 * c) (by omega), hd (8 * c + 1) (by omega), dm_a3]
  refine ⟨vp_in_nI (by omega) (by decide), nm_e ⟨vp_in_nI (by omega) (by decide), nm_e (br_f (by decide) ?_)⟩⟩
  rw [dm_sr4 (by omega), nI_clamp (n := B (8 * c + 1) / 16) (by omega), ecl]
  refine pk_eq (B (8 * c) % 4) 0 (fun z => ⟨v4, nm_e (k0 z)⟩) (fun z => pk_eq (B (8 * c) % 4) 3 (fun y => ?_) (fun y => ?_))
  · refine ⟨vp_in_nI (by omega) (by decide), br_c (fun x => ⟨v4, nm_e (ke y (fun q => q x))⟩) (fun x => ?_)⟩
    unfold wY_fetch_146
    rw [y, nI_clamp (n := B (8 * c + 1)) (by omega), ecl]
    exact br_t rfl ⟨vp_in_nI (by omega) (by decide), v4, nm_e (k3 y x)⟩
  · unfold wY_fetch_146
    refine br_f (fun q => y ((nI_eq (b := 3) (by omega) (by decide)).mp q)) ⟨v4, ?_⟩
    rw [ecl, dm_n1]
    refine nm_e ⟨v4, nm_e ?_⟩
    have hLb : dm_L B c < 256 := hb _ (by omega)
    refine dm_ycomp (k := 0) hc hd pk_us (by decide) hLb ?_ ?_
    · intro q
      rw [dm_uu]
      refine kc (by omega) ?_
      unfold dm_T at q
      exact Nat.mul_eq_zero.mp q.symm
    · intro q
      unfold dm_T at q
      have : dm_L B c ≠ 0 := fun e => q (by rw [e, Nat.zero_mul])
      have : dm_R B c ≠ 0 := fun e => q (by rw [e, Nat.mul_zero])
      exact kl (by omega) (by omega) (by omega)
end
end
section
/-! ===== facts after a change of channel c; fetch as one outcome ===== -/
section
variable {f0 f1 f2 f3 f4 f5 nn ho cr ev : Int32} {wd md st wt de mv ld rs rd rl co le ss ds nx ct me dc kk : Nat → Int32} {N H C : Nat} {B Q P Q' P' : Nat → Nat} {c A : Nat} {ld' rs' rd' rl' co' le' ss' ds' nx' ct' kk' : Nat → Int32}
theorem dm_FB_at (h : dm_FB B Q P ld) (hl : ∀ e, e ≠ c → ld' e = ld e) (hq : ∀ e, e ≠ c → Q' e = Q e) (hp : ∀ e, e ≠ c → P' e = P e) (hn : ¬ ld' c = 0 → P' c < dm_L B c ∧ Q' c < dm_R B c) : dm_FB B Q' P' ld' := by
  refine ⟨h.1, fun e he z => ?_⟩
  by_cases q : e = c
  · subst q; exact hn z
  · rw [hq e q, hp e q]; rw [hl e q] at z; exact h.2 e he z
theorem dm_FX_at (h : dm_FX B Q P ld rs rd rl co le ss ds nx ct) (hl : ∀ e, e ≠ c → ld' e = ld e) (hq : ∀ e, e ≠ c → Q' e = Q e) (hp : ∀ e, e ≠ c → P' e = P e)
    (e1 : ∀ e, e ≠ c → rs' e = rs e) (e2 : ∀ e, e ≠ c → rd' e = rd e) (e3 : ∀ e, e ≠ c → rl' e = rl e) (e4 : ∀ e, e ≠ c → co' e = co e) (e5 : ∀ e, e ≠ c → le' e = le e) (e6 : ∀ e, e ≠ c → ss' e = ss e) (e7 : ∀ e, e ≠ c → ds' e = ds e) (e8 : ∀ e, e ≠ c → nx' e = nx e) (e9 : ∀ e, e ≠ c → ct' e = ct e)
    (hn : ¬ ld' c = 0 → dm_CX B Q' P' rs' rd' rl' co' le' ss' ds' nx' ct' c) : dm_FX B Q' P' ld' rs' rd' rl' co' le' ss' ds' nx' ct' := by
  intro e he z
  by_cases q : e = c
  · subst q; exact hn z
  · rw [hl e q] at z
    exact dm_CX_cg (fun _ _ => rfl) (hq e q) (hp e q) (e1 e q) (e2 e q) (e3 e q) (e4 e q) (e5 e q) (e6 e q) (e7 e q) (e8 e q) (e9 e q) (h e he z)
theorem dm_FY_at {m : Nat} (h : dm_FY B Q P ld dc kk) (hl : ∀ e, e ≠ c → ld' e = ld e) (hq : ∀ e, e ≠ c → Q' e = Q e) (hp : ∀ e, e ≠ c → P' e = P e) (hk : ∀ e, e ≠ c → kk' e = kk e) (hm : m < 2000) (em : kk' c = nI m) (hn : ¬ ld' c = 0 → m = dm_K B Q' P' c) : dm_FY B Q' P' ld' dc kk' := by
  refine ⟨h.1, fun e he => ?_, fun e he z => ?_⟩
  · by_cases q : e = c
    · subst q; exact ⟨m, hm, em⟩
    · rw [hk e q]; exact h.2.1 e he
  · by_cases q : e = c
    · subst q; rw [em, hn z]
    · rw [hk e q]
      rw [hl e q] at z
      rw [dm_K_cg (B' := B) (fun _ _ => rfl) (hq e q) (hp e q)]
      exact h.2.2 e he z
theorem dm_F_nb (F : dm_F N H C B Q P wd st wt de ld rs rd rl co le ss ds nx ct me dc kk) (l0 : ld c = 0) : dm_F N H C (dm_nb (dm_lb wd) B A c) Q P wd st wt de ld rs rd rl co le ss ds nx ct me (dm_dcs dc me A c 8) kk := by
  obtain ⟨h1, h2, h3, hB, hX, hY⟩ := F
  refine ⟨h1, h2, h3, ⟨dm_nb_lt (dm_lb_lt wd) hB.1, fun e he z => ?_⟩, fun e he z => ?_, ⟨dm_dcs_nb h3 hY.1, hY.2.1, fun e he z => ?_⟩⟩
  · have q : e ≠ c := fun q => z (by rw [q]; exact l0)
    rw [dm_L_cg (dm_nb_o q), dm_R_cg (dm_nb_o q)]
    exact hB.2 e he z
  · have q : e ≠ c := fun q => z (by rw [q]; exact l0)
    exact dm_CX_cg (dm_nb_o q) rfl rfl rfl rfl rfl rfl rfl rfl rfl rfl rfl (hX e he z)
  · have q : e ≠ c := fun q => z (by rw [q]; exact l0)
    rw [dm_K_cg (dm_nb_o q) rfl rfl]
    exact hY.2.2 e he z
theorem dm_F_latch (F : dm_F N H C B Q P wd st wt de ld rs rd rl co le ss ds nx ct me dc kk) (hc : c < 4) (hL : 0 < dm_L B c) (hR : 0 < dm_R B c) : dm_F N H C B (dm_nu Q c 0) (dm_nu P c 0) wd st wt de (upd ld c 1) (upd rs c (nI (B (8 * c + 1)))) (upd rd c (nI (B (8 * c + 2)))) (upd rl c (nI (dm_R B c))) (upd co c 0) (upd le c (nI (dm_L B c))) (upd ss c (nI (dm_S B c 1))) (upd ds c (nI (dm_S B c 2))) (upd nx c (nI (B (8 * c + 7)))) (upd ct c (nI (B (8 * c)))) me dc (upd kk c 0) := by
  obtain ⟨h1, h2, h3, hB, hX, hY⟩ := F
  have b1 := hB.1 (8 * c + 1) (by omega)
  have b2 := hB.1 (8 * c + 2) (by omega)
  refine ⟨h1, h2, h3, ?_, ?_, ?_⟩
  · refine dm_FB_at (c := c) hB (fun e q => pk_un q) (fun e q => dm_nu_n q) (fun e q => dm_nu_n q) (fun _ => ?_)
    rw [dm_nu_s, dm_nu_s]; exact ⟨hL, hR⟩
  · refine dm_FX_at (c := c) hX (fun e q => pk_un q) (fun e q => dm_nu_n q) (fun e q => dm_nu_n q) (fun e q => pk_un q) (fun e q => pk_un q) (fun e q => pk_un q) (fun e q => pk_un q) (fun e q => pk_un q) (fun e q => pk_un q) (fun e q => pk_un q) (fun e q => pk_un q) (fun e q => pk_un q) (fun _ => ?_)
    unfold dm_CX
    rw [dm_nu_s, dm_nu_s, Nat.zero_mul, Nat.zero_mul, Nat.add_zero (B (8 * c + 1)), Nat.add_zero (B (8 * c + 2)), Nat.sub_zero, Nat.mod_eq_of_lt b1, Nat.mod_eq_of_lt b2]
    exact ⟨pk_us, pk_us, pk_us, pk_us, pk_us, pk_us, pk_us, pk_us, pk_us⟩
  · refine dm_FY_at (c := c) (m := 0) hY (fun e q => pk_un q) (fun e q => dm_nu_n q) (fun e q => dm_nu_n q) (fun e q => pk_un q) (by decide) pk_us (fun _ => ?_)
    unfold dm_K
    rw [dm_nu_s, dm_nu_s, Nat.zero_mul]
/-- channel c unloaded, its registers anything -/
theorem dm_F_off {m : Nat} (F : dm_F N H C B Q P wd st wt de ld rs rd rl co le ss ds nx ct me dc kk) (hm : m < 2000) (em : kk' c = nI m) (hk : ∀ e, e ≠ c → kk' e = kk e)
    (e1 : ∀ e, e ≠ c → rs' e = rs e) (e2 : ∀ e, e ≠ c → rd' e = rd e) (e3 : ∀ e, e ≠ c → rl' e = rl e) (e4 : ∀ e, e ≠ c → co' e = co e) (e5 : ∀ e, e ≠ c → le' e = le e) (e6 : ∀ e, e ≠ c → ss' e = ss e) (e7 : ∀ e, e ≠ c → ds' e = ds e) (e8 : ∀ e, e ≠ c → nx' e = nx e) (e9 : ∀ e, e ≠ c → ct' e = ct e) (hc : c < 4) :
    dm_F N H C B Q P wd (dm_cst st (nI (B (8 * c))) c) wt (dm_cde de (nI (B (8 * c))) (nI (B (8 * c + 7))) c) (upd ld c 0) rs' rd' rl' co' le' ss' ds' nx' ct' me dc kk' := by
  obtain ⟨h1, h2, h3, hB, hX, hY⟩ := F
  exact ⟨h1, dm_FS_c h2 (hB.1 _ (by omega)), h3, dm_FB_at (c := c) hB (fun e q => pk_un q) (fun e q => rfl) (fun e q => rfl) (fun z => absurd pk_us z),
    dm_FX_at (c := c) hX (fun e q => pk_un q) (fun e q => rfl) (fun e q => rfl) e1 e2 e3 e4 e5 e6 e7 e8 e9 (fun z => absurd pk_us z),
    dm_FY_at (c := c) hY (fun e q => pk_un q) (fun e q => rfl) (fun e q => rfl) hk hm em (fun z => absurd pk_us z)⟩
end
section
variable {f0 f1 f2 f3 f4 f5 nn ho cr ev : Int32} {wd md st wt de mv ld rs rd rl co le ss ds nx ct me dc kk : Nat → Int32} {N H C : Nat} {B Q P : Nat → Nat} {c : Nat}
theorem dm_fetch (F : dm_F N H C B Q P wd st wt de ld rs rd rl co le ss ds nx ct me dc kk) (hc : c < 4) (l0 : ld c = 0) : ∃ (ev' : Int32) (st' de' ld' rs' rd' rl' co' le' ss' ds' nx' ct' dc' kk' : Nat → Int32) (B' Q' P' : Nat → Nat),
    dm_F N H C B' Q' P' wd st' wt de' ld' rs' rd' rl' co' le' ss' ds' nx' ct' me dc' kk' ∧
    (∀ (z : Int32) (post : SX → Prop), post (f0, f1, f2, f3, f4, f5, nn, ho, z, ev', wd, md, st', wt, de', mv, ld', rs', rd', rl', co', le', ss', ds', nx', ct') → wpX_fetch post (f0, f1, f2, f3, f4, f5, nn, ho, z, ev, wd, md, st, wt, de, mv, ld, rs, rd, rl, co, le, ss, ds, nx, ct) (nI c)) ∧
    (∀ (z : Int32) (post : SY → Prop), post (nn, ho, z, ev', me, md, st', wt, de', mv, ld', dc', kk') → wpY_fetch post (nn, ho, z, ev, me, md, st, wt, de, mv, ld, dc, kk) (nI c)) := by
  obtain ⟨A, hA, eA⟩ := F.2.1.2.2 c hc
  have F1 := dm_F_nb (A := A) F l0
  have hcc : ∀ j, j < 8 → dm_nb (dm_lb wd) B A c (8 * c + j) = dm_lb wd ((A + j) % 256) := fun j hj => dm_nb_c hj
  have hd1 := F1.2.2.2.2.2.1
  have hb1 := F1.2.2.2.1.1
  have hM := F.2.2.1
  generalize eB : dm_nb (dm_lb wd) B A c = B1 at F1 hcc hd1 hb1
  generalize ed : dm_dcs dc me A c 8 = dc1 at F1 hd1
  by_cases op : dm_op md A
  rotate_left
  · refine ⟨ev, upd st c 5, de, ld, rs, rd, rl, co, le, ss, ds, nx, ct, dc1, kk, B1, Q, P, dm_F_st (s := 5) F1 (by decide), fun z post h => ?_, fun z post h => ?_⟩
    · exact dm_xfetch hc hA eA hcc (fun _ => h) (fun q => absurd q op) (fun q => absurd q op) (fun q => absurd q op) (fun q => absurd q op) (fun q => absurd q op)
    · refine dm_yloop hc hA eA (fun q => absurd q op) (fun _ => ?_)
      rw [ed]
      exact dm_yex0 hc h
  by_cases t0 : B1 (8 * c) % 4 = 0
  · refine ⟨ev, upd st c 3, de, ld, rs, rd, rl, co, le, ss, ds, nx, ct, dc1, kk, B1, Q, P, dm_F_st (s := 3) F1 (by decide), fun z post h => ?_, fun z post h => ?_⟩
    · exact dm_xfetch hc hA eA hcc (fun q => absurd op q) (fun _ _ => h) (fun _ q => by omega) (fun _ q => by omega) (fun _ q => by omega) (fun _ q => by omega)
    · refine dm_yloop hc hA eA (fun _ => ?_) (fun q => absurd op q)
      rw [ed]
      exact dm_yex1 hc hb1 hd1 (fun _ => h) (fun q => by omega) (fun q => by omega) (fun q => by omega) (fun q => by omega)
  by_cases t3 : B1 (8 * c) % 4 = 3
  · by_cases hr : dm_rb md (B1 (8 * c + 1))
    · have hl := dm_lb_lt wd (B1 (8 * c + 1))
      refine ⟨ev, st, upd de c (nI (dm_lb wd (B1 (8 * c + 1)))), ld, rs, rd, rl, co, le, ss, ds, nx, ct, dc1, kk, B1, Q, P, dm_F_de F1 hl, fun z post h => ?_, fun z post h => ?_⟩
      · exact dm_xfetch hc hA eA hcc (fun q => absurd op q) (fun _ q => by omega) (fun _ _ q => absurd hr q) (fun _ _ _ => h) (fun _ q => by omega) (fun _ q => by omega)
      · refine dm_yloop hc hA eA (fun _ => ?_) (fun q => absurd op q)
        rw [ed]
        refine dm_yex1 hc hb1 hd1 (fun q => by omega) (fun _ q => absurd hr q) (fun _ _ => ?_) (fun q => by omega) (fun q => by omega)
        rw [hM _ (hb1 _ (by omega))]
        exact h
    · refine ⟨ev, upd st c 5, de, ld, rs, rd, rl, co, le, ss, ds, nx, ct, dc1, kk, B1, Q, P, dm_F_st (s := 5) F1 (by decide), fun z post h => ?_, fun z post h => ?_⟩
      · exact dm_xfetch hc hA eA hcc (fun q => absurd op q) (fun _ q => by omega) (fun _ _ _ => h) (fun _ _ q => absurd q hr) (fun _ q => by omega) (fun _ q => by omega)
      · refine dm_yloop hc hA eA (fun _ => ?_) (fun q => absurd op q)
        rw [ed]
        exact dm_yex1 hc hb1 hd1 (fun q => by omega) (fun _ _ => h) (fun _ q => absurd q hr) (fun q => by omega) (fun q => by omega)
  by_cases hz : 0 < dm_L B1 c ∧ 0 < dm_R B1 c
  · refine ⟨ev, st, de, upd ld c 1, upd rs c (nI (B1 (8 * c + 1))), upd rd c (nI (B1 (8 * c + 2))), upd rl c (nI (dm_R B1 c)), upd co c 0, upd le c (nI (dm_L B1 c)), upd ss c (nI (dm_S B1 c 1)), upd ds c (nI (dm_S B1 c 2)), upd nx c (nI (B1 (8 * c + 7))), upd ct c (nI (B1 (8 * c))), dc1, upd kk c 0, B1, dm_nu Q c 0, dm_nu P c 0, dm_F_latch F1 hc hz.1 hz.2, fun z post h => ?_, fun z post h => ?_⟩
    · exact dm_xfetch hc hA eA hcc (fun q => absurd op q) (fun _ q => absurd q t0) (fun _ q => absurd q t3) (fun _ q => absurd q t3) (fun _ _ _ _ => h) (fun _ _ q => by omega)
    · refine dm_yloop hc hA eA (fun _ => ?_) (fun q => absurd op q)
      rw [ed]
      exact dm_yex1 hc hb1 hd1 (fun q => absurd q t0) (fun q => absurd q t3) (fun q => absurd q t3) (fun _ _ _ => h) (fun _ q => by omega)
  · refine ⟨dm_cev ev (nI (B1 (8 * c))) c, dm_cst st (nI (B1 (8 * c))) c, dm_cde de (nI (B1 (8 * c))) (nI (B1 (8 * c + 7))) c, upd ld c 0, upd rs c (nI (B1 (8 * c + 1))), upd rd c (nI (B1 (8 * c + 2))), upd rl c (nI (dm_R B1 c)), upd co c 0, upd le c (nI (dm_L B1 c)), upd ss c (nI (dm_S B1 c 1)), upd ds c (nI (dm_S B1 c 2)), upd nx c (nI (B1 (8 * c + 7))), upd ct c (nI (B1 (8 * c))), dc1, upd kk c 0, B1, Q, P, ?_, fun z post h => ?_, fun z post h => ?_⟩
    · exact dm_F_off (c := c) (m := 0) F1 (by decide) pk_us (fun e q => pk_un q) (fun e q => pk_un q) (fun e q => pk_un q) (fun e q => pk_un q) (fun e q => pk_un q) (fun e q => pk_un q) (fun e q => pk_un q) (fun e q => pk_un q) (fun e q => pk_un q) (fun e q => pk_un q) hc
    · exact dm_xfetch hc hA eA hcc (fun q => absurd op q) (fun _ q => absurd q t0) (fun _ q => absurd q t3) (fun _ q => absurd q t3) (fun _ _ q1 q2 => absurd ⟨q1, q2⟩ hz) (fun _ _ _ => h)
    · refine dm_yloop hc hA eA (fun _ => ?_) (fun q => absurd op q)
      rw [ed]
      exact dm_yex1 hc hb1 hd1 (fun q => absurd q t0) (fun q => absurd q t3) (fun q => absurd q t3) (fun _ q1 q2 => absurd ⟨q1, q2⟩ hz) (fun _ _ => h)
end
end
section
/-! ===== the component's burst ===== -/
/-- what a burst's length satisfies -/
def dm_ok (B Q P : Nat → Nat) (ld st : Nat → Int32) (c bud n : Nat) : Prop :=
  1 ≤ n ∧ n ≤ bud ∧ P c + n ≤ dm_L B c ∧ dm_ad B c (dm_K B Q P c) 1 % 16 + n ≤ 16 ∧ dm_ad B c (dm_K B Q P c) 2 % 16 + n ≤ 16 ∧
  (dm_ad B c (dm_K B Q P c) 1 = dm_ad B c (dm_K B Q P c) 2 ∨ n ≤ (dm_ad B c (dm_K B Q P c) 2 + 256 - dm_ad B c (dm_K B Q P c) 1) % 256) ∧
  (¬ (nI (B (8 * c)) &&& 16) = 0 → ∀ j, j < n → ¬ dm_St B Q P ld st c ((dm_ad B c (dm_K B Q P c) 1 + j) % 256))
section
variable {f0 f1 f2 f3 f4 f5 nn ho cr ev : Int32} {wd md st wt de mv ld rs rd rl co le ss ds nx ct me dc kk : Nat → Int32} {N H C : Nat} {B Q P : Nat → Nat} {c : Nat}
theorem dm_x89 {post : Int32 → Prop} {n : Nat} (hc : c < 4) (l1 : ¬ ld c = 0) (hB : dm_FB B Q P ld) (hX : dm_FX B Q P ld rs rd rl co le ss ds nx ct) (hS : ∀ e, e < 4 → ∃ s, s < 8 ∧ st e = nI s) (s1 : st c = 1) (ns : ¬ dm_Sd B Q P ld st c) (h1 : 1 ≤ n) (h2 : n ≤ 256)
    (h : ∀ m, 1 ≤ m → m ≤ n → (¬ (nI (B (8 * c)) &&& 16) = 0 → ∀ j, j < m → ¬ dm_St B Q P ld st c ((dm_ad B c (dm_K B Q P c) 1 + j) % 256)) → post (nI m)) : wX_burstLength_89 post (nI c) (nI n) f0 f1 f2 f3 f4 f5 nn ho cr ev wd md st wt de mv ld rs rd rl co le ss ds nx ct := by
  have v4 : vp_in (nI c) 4 := vp_in_nI hc (by decide)
  have ecl : (nI c).toNatClampNeg = c := nI_clamp (by omega)
  unfold wX_burstLength_89
  refine ⟨v4, ?_⟩
  rw [ecl, (hX c hc l1).2.2.2.2.2.2.2.2]
  refine br_c (fun z => br_t rfl (h n h1 (Nat.le_refl _) (fun q => absurd z q))) (fun z => br_f (by decide) ?_)
  refine dm_xclear hc l1 hB hX hS ?_
  intro d k1 k2 k3
  have d0 : d ≠ 0 := fun e => ns ⟨s1, l1, z, k3 e⟩
  refine dm_xmin (by omega) (by omega) (h (min n d) (by omega) (by omega) (fun _ j hj => k2 j (by omega)))
theorem dm_xlen {post : Int32 → Prop} {bud : Nat} (hc : c < 4) (l1 : ¬ ld c = 0) (hB : dm_FB B Q P ld) (hX : dm_FX B Q P ld rs rd rl co le ss ds nx ct) (hS : ∀ e, e < 4 → ∃ s, s < 8 ∧ st e = nI s) (s1 : st c = 1) (ns : ¬ dm_Sd B Q P ld st c) (b1 : 1 ≤ bud) (b2 : bud ≤ 256)
    (h : ∀ n, dm_ok B Q P ld st c bud n → post (nI n)) : wpX_burstLength post (f0, f1, f2, f3, f4, f5, nn, ho, cr, ev, wd, md, st, wt, de, mv, ld, rs, rd, rl, co, le, ss, ds, nx, ct) (nI c) (nI bud) := by
  have v4 : vp_in (nI c) 4 := vp_in_nI hc (by decide)
  have ecl : (nI c).toNatClampNeg = c := nI_clamp (by omega)
  have hb := hB.2 c hc l1
  have hx := hX c hc l1
  have hL : dm_L B c < 256 := hB.1 _ (by omega)
  unfold dm_ok at h
  unfold wpX_burstLength
  refine dm_xsrc hc hb.1 hx ?_
  refine dm_xdst hc hb.1 hx ⟨v4, v4, ?_⟩
  have hf := dm_ad_lt B c (dm_K B Q P c) 1
  have ht := dm_ad_lt B c (dm_K B Q P c) 2
  have p1 := hb.1
  rw [ecl, hx.2.2.2.1, hx.2.2.2.2.1, pk_sub (a := dm_L B c) (b := P c) (by omega)]
  have K := fun (n : Nat) (a1 : 1 ≤ n) (a2 : n ≤ 256) (k : _) => dm_x89 (f0 := f0) (f1 := f1) (f2 := f2) (f3 := f3) (f4 := f4) (f5 := f5) (nn := nn) (ho := ho) (cr := cr) (ev := ev) (wd := wd) (md := md) (wt := wt) (de := de) (mv := mv) (post := post) (n := n) hc l1 hB hX hS s1 ns a1 a2 k
  generalize dm_ad B c (dm_K B Q P c) 1 = f at h hf K ⊢
  generalize dm_ad B c (dm_K B Q P c) 2 = t at h ht ⊢
  have ef : (16 : Int32) - (nI f &&& 15) = nI (16 - f % 16) := by
    rw [dm_a15, show (16 : Int32) = nI 16 from rfl, pk_sub (by omega)]
  have et : (16 : Int32) - (nI t &&& 15) = nI (16 - t % 16) := by
    rw [dm_a15, show (16 : Int32) = nI 16 from rfl, pk_sub (by omega)]
  refine dm_xmin (by omega) (by omega) ?_
  rw [ef]
  refine dm_xmin (by omega) (by omega) ?_
  rw [et]
  refine dm_xmin (by omega) (by omega) ?_
  rw [dm_sub255 (by omega)]
  refine nm_e (pk_eq ((t + 256 - f) % 256) 0 (fun z => ?_) (fun z => ?_))
  · refine K _ (by omega) (by omega) (fun m m1 m2 m3 => h m ⟨m1, by omega, by omega, by omega, by omega, Or.inl (by omega), m3⟩)
  · refine dm_xmin (by omega) (by omega) ?_
    refine K _ (by omega) (by omega) (fun m m1 m2 m3 => h m ⟨m1, by omega, by omega, by omega, by omega, Or.inr (by omega), m3⟩)
theorem dm_cl03 {a b : Nat} (ha : a < 512) (hb : b < 512) (h : a - b ≤ 3) : dm_cl (nI a - nI b) 0 3 = nI (a - b) := by
  unfold dm_cl
  by_cases g : b ≤ a
  · have q : nI (a - b) ≤ 3 := nI_le (b := 3) h (by decide)
    rw [pk_sub g, if_pos (nI_pos' (by omega)), if_pos q]
  · have : nI a - nI b < 0 := pk_sneg (by omega) (by omega)
    rw [if_neg (Int32.not_le.mpr this), show a - b = 0 from by omega]; rfl
theorem dm_cl14 {a b : Nat} (ha : a < 512) (h : b < a) : dm_cl (nI a - nI b) 1 4 = nI (min (a - b) 4) := by
  unfold dm_cl
  have q1 : (1 : Int32) ≤ nI (a - b) := nI_le (a := 1) (by omega) (by omega)
  rw [pk_sub (by omega), if_pos q1]
  by_cases g : a - b ≤ 4
  · have q : nI (a - b) ≤ 4 := nI_le (b := 4) g (by decide)
    rw [if_pos q, Nat.min_eq_left g]
  · have q : ¬ nI (a - b) ≤ 4 := nI_ge (a := 4) (by omega) (by omega)
    rw [if_neg q, Nat.min_eq_right (by omega)]; rfl
theorem dm_xlane {post : Int32 → Prop} {a b d : Nat} (ha : a < 512) (hb : b < 512) (hd : d < 512) (h3 : a - b ≤ 3) (hbd : b < d)
    (h : ∀ m, (∀ j, j < 4 → ∀ i, i < 8 → bt m (8 * j + i) = decide (a - b ≤ j ∧ j < min (d - b) 4)) → post m) : wpX_laneMask post (f0, f1, f2, f3, f4, f5, nn, ho, cr, ev, wd, md, st, wt, de, mv, ld, rs, rd, rl, co, le, ss, ds, nx, ct) (nI a - nI b) (nI d - nI b) := by
  unfold wpX_laneMask
  refine dm_xcl ?_
  rw [dm_cl03 ha hb h3]
  refine dm_xcl ?_
  rw [dm_cl14 hd hbd]
  exact h _ (dm_mlan (a - b) (by omega) (min (d - b) 4) (by omega) (by omega))
end
/-! the copy, purely -/
def dm_I1 (w0 w : Nat → Int32) (f t n lim : Nat) : Prop := ∀ a, a < 256 → dm_lb w a = if t ≤ a ∧ a < t + n ∧ a < lim then dm_lb w0 (f + (a - t)) else dm_lb w0 a
theorem dm_cp1 {f t n idx l s : Nat} (hf : f < 256) (ht : t < 256) (hfn : f % 16 + n ≤ 16) (hi : t / 4 ≤ idx) (h1 : t ≤ 4 * idx + l) (h2 : 4 * idx + l < t + n) (hl : l < 4) (hs : s = (f + 256 - t) % 4) (h4 : 4 ≤ s + l) :
    4 * (((f + 256 - t % 4) % 256 / 4 + (idx - t / 4) + 1) % 64) + (s + l - 4) = f + (4 * idx + l - t) := by omega
theorem dm_cp2 {f t n idx l s : Nat} (hf : f < 256) (ht : t < 256) (hfn : f % 16 + n ≤ 16) (hi : t / 4 ≤ idx) (h1 : t ≤ 4 * (idx + 1) + l) (h2 : 4 * (idx + 1) + l < t + n) (hl : l < 4) (hs : s = (f + 256 - t) % 4) (h4 : s + l < 4) :
    4 * (((f + 256 - t % 4) % 256 / 4 + (idx - t / 4) + 1) % 64) + (s + l) = f + (4 * (idx + 1) + l - t) := by omega
theorem dm_cp0 {f t n l s : Nat} (hf : f < 256) (ht : t < 256) (hfn : f % 16 + n ≤ 16) (h1 : t ≤ 4 * (t / 4) + l) (h2 : 4 * (t / 4) + l < t + n) (hl : l < 4) (hs : s = (f + 256 - t) % 4) (h4 : s + l < 4) :
    4 * ((f + 256 - t % 4) % 256 / 4) + (s + l) = f + (4 * (t / 4) + l - t) := by omega
theorem dm_cpn {f t n a lim : Nat} (hf : f < 256) (ht : t < 256) (hv : f = t ∨ n ≤ (t + 256 - f) % 256) (h1 : t ≤ a) (h2 : a < t + n) (h3 : lim ≤ a) : ¬ (t ≤ f + (a - t) ∧ f + (a - t) < t + n ∧ f + (a - t) < lim) := by omega
section
variable {f0 f1 f2 f3 f4 f5 nn ho cr ev : Int32} {wd md st wt de mv ld rs rd rl co le ss ds nx ct me dc kk : Nat → Int32} {N H C : Nat} {B Q P : Nat → Nat} {c : Nat}
theorem dm_x50 {post : SX → Prop} {f t n s : Nat} {w0 : Nat → Int32} (hf : f < 256) (ht : t < 256) (hn : 1 ≤ n) (hfn : f % 16 + n ≤ 16) (htn : t % 16 + n ≤ 16) (hv : f = t ∨ n ≤ (t + 256 - f) % 256) (hs : s = (f + 256 - t) % 4)
    (h : ∀ w, dm_I1 w0 w f t n 256 → post (f0, f1, f2, f3, f4, f5, nn, ho, cr, ev, w, md, st, wt, de, mv, ld, rs, rd, rl, co, le, ss, ds, nx, ct)) :
    ∀ m idx src w held, idx + m = (t + n - 1) / 4 + 1 → t / 4 ≤ idx → src = ((f + 256 - t % 4) % 256 / 4 + (idx - t / 4)) % 64 → dm_I1 w0 w f t n (4 * idx) →
      (∀ l, l < 4 → s + l < 4 → t ≤ 4 * idx + l → 4 * idx + l < t + n → dm_by held (s + l) = dm_lb w0 (f + (4 * idx + l - t))) →
      wX_copyBurst_50 post (nI t) (nI (8 * s)) (nI (t + n)) (nI ((t + n - 1) / 4)) (m + 1) (nI src) held (nI idx) f0 f1 f2 f3 f4 f5 nn ho cr ev w md st wt de mv ld rs rd rl co le ss ds nx ct := by
  intro m
  induction m with
  | zero =>
    intro idx src w held hm hi hsrc i1 i2
    refine br_t (nI_lt (by omega) (by omega)) (h w (fun a ha => ?_))
    rw [i1 a ha]
    by_cases g : t ≤ a ∧ a < t + n
    · rw [if_pos ⟨g.1, g.2, by omega⟩, if_pos ⟨g.1, g.2, by omega⟩]
    · rw [if_neg (fun z => g ⟨z.1, z.2.1⟩), if_neg (fun z => g ⟨z.1, z.2.1⟩)]
  | succ m ih =>
    intro idx src w held hm hi hsrc i1 i2
    have s4 : s < 4 := by omega
    have es : (nI src + 1) &&& 63 = nI (((f + 256 - t % 4) % 256 / 4 + (idx - t / 4) + 1) % 64) := by
      rw [nI_1, dm_a63, hsrc]
      exact congrArg nI (by omega)
    refine br_f (nI_nlt (by omega) (by omega)) ?_
    rw [es]
    refine nm_e ⟨vp_in_nI (by omega) (by decide), ?_⟩
    rw [nI_clamp (by omega)]
    refine nm_e ?_
    refine dm_xrealign s4 ?_
    have e4 : nI idx * 4 = nI (4 * idx) := by rw [show (4 : Int32) = nI 4 from rfl, pk_mul, Nat.mul_comm]
    rw [e4]
    refine dm_xlane (by omega) (by omega) (by omega) (by omega) (by omega) ?_
    intro mk hmk
    refine dm_xmerge (i := idx) (by omega) (by rw [dm_a63]; exact congrArg nI (by omega)) ?_
    refine nm_r (nI_1 idx) ?_
    have lw : ∀ a, t ≤ a → a < t + n → 4 * idx ≤ a → dm_lb w (f + (a - t)) = dm_lb w0 (f + (a - t)) := by
      intro a a1 a2 a3
      rw [i1 _ (by omega), if_neg (dm_cpn hf ht hv a1 a2 a3)]
    refine ih (idx + 1) _ _ _ (by omega) (by omega) (by rw [Nat.sub_add_comm hi]; rfl) ?_ ?_
    · intro a ha
      rw [dm_lb_mg (e := fun j => decide (t - 4 * idx ≤ j ∧ j < min (t + n - 4 * idx) 4)) hmk]
      by_cases g : a / 4 = idx ∧ t ≤ a ∧ a < t + n
      · rw [if_pos ⟨g.1, decide_eq_true (by omega)⟩, if_pos (by omega), dm_by_re _ _ s4 (by omega)]
        have ea : a = 4 * idx + a % 4 := by omega
        by_cases q : s + a % 4 < 4
        · rw [if_pos q, i2 (a % 4) (by omega) q (by omega) (by omega), ← ea]
        · rw [if_neg q, ← dm_lb_w w (by omega), dm_cp1 hf ht hfn hi (by omega) (by omega) (by omega) hs (by omega), ← ea]
          exact lw a g.2.1 g.2.2 (by omega)
      · rw [if_neg (fun z => g ⟨z.1, by have h2 := of_decide_eq_true z.2; have h1 := z.1; omega⟩), i1 a ha]
        by_cases q : t ≤ a ∧ a < t + n ∧ a < 4 * idx
        · rw [if_pos q, if_pos (by omega)]
        · rw [if_neg q, if_neg (by omega)]
    · intro l hl q a1 a2
      rw [← dm_lb_w w (by omega), dm_cp2 hf ht hfn hi a1 a2 hl hs q]
      exact lw _ a1 a2 (by omega)
theorem dm_xcopy {post : SX → Prop} {f t n : Nat} (hf : f < 256) (ht : t < 256) (hn : 1 ≤ n) (hfn : f % 16 + n ≤ 16) (htn : t % 16 + n ≤ 16) (hv : f = t ∨ n ≤ (t + 256 - f) % 256)
    (h : ∀ w, (∀ a, a < 256 → dm_lb w a = if t ≤ a ∧ a < t + n then dm_lb wd (f + (a - t)) else dm_lb wd a) → post (f0, f1, f2, f3, f4, f5, nn, ho, cr, ev, w, md, st, wt, de, mv, ld, rs, rd, rl, co, le, ss, ds, nx, ct)) : wpX_copyBurst post (f0, f1, f2, f3, f4, f5, nn, ho, cr, ev, wd, md, st, wt, de, mv, ld, rs, rd, rl, co, le, ss, ds, nx, ct) (nI f) (nI t) (nI n) := by
  have e1 : ((nI f - nI t) &&& 3) * 8 = nI (8 * ((f + 256 - t) % 4)) := by rw [dm_sub3 (by omega), dm_m8]
  have e2 : nI t + nI n = nI (t + n) := nI_add t n
  have e3 : (nI (t + n) - 1) >>> ((2 : Int32) &&& 31) = nI ((t + n - 1) / 4) := by
    rw [show (1 : Int32) = nI 1 from rfl, pk_sub (by omega), dm_sr2 (by omega)]
  have e4 : ((nI f - (nI t &&& 3)) &&& 255) >>> ((2 : Int32) &&& 31) = nI ((f + 256 - t % 4) % 256 / 4) := by
    rw [dm_a3, dm_sub255 (by omega), dm_sr2 (by omega)]
  have e5 : nI t >>> ((2 : Int32) &&& 31) = nI (t / 4) := dm_sr2 (by omega)
  unfold wpX_copyBurst
  refine nm_r e1 (nm_r e2 (nm_r e3 (nm_r e4 ⟨vp_in_nI (by omega) (by decide), ?_⟩)))
  rw [nI_clamp (by omega)]
  refine nm_e (nm_r e5 ⟨(t + n - 1) / 4 + 1 - t / 4 + 1, ?_⟩)
  refine dm_x50 (w0 := wd) hf ht hn hfn htn hv rfl ?_ _ (t / 4) _ wd _ (by omega) (Nat.le_refl _) ?_ ?_ ?_
  · intro w hw
    refine h w (fun a ha => ?_)
    rw [hw a ha]
    by_cases g : t ≤ a ∧ a < t + n
    · rw [if_pos ⟨g.1, g.2, ha⟩, if_pos g]
    · rw [if_neg (fun z => g ⟨z.1, z.2.1⟩), if_neg g]
  · rw [Nat.sub_self]; omega
  · intro a ha
    rw [if_neg (by omega)]
  · intro l hl q a1 a2
    rw [← dm_lb_w wd (by omega), dm_cp0 hf ht hfn a1 a2 hl rfl q]
theorem dm_xretire {post : SX → Prop} {n : Nat} (hc : c < 4) (hX : dm_CX B Q P rs rd rl co le ss ds nx ct c) (hP : P c < dm_L B c) (hn : P c + n ≤ dm_L B c) (hQ : Q c < dm_R B c) (hL : dm_L B c < 256)
    (k1 : P c + n < dm_L B c → post (f0, f1, f2, f3, f4, f5, nn, ho, cr, ev, wd, md, st, wt, de, upd mv c (mv c + nI n), ld, rs, rd, rl, upd co c (nI (P c + n)), le, ss, ds, nx, ct))
    (k2 : P c + n = dm_L B c → Q c + 1 < dm_R B c → post (f0, f1, f2, f3, f4, f5, nn, ho, cr, ev, wd, md, st, wt, de, upd mv c (mv c + nI n), ld, upd rs c (nI ((B (8 * c + 1) + (Q c + 1) * dm_S B c 1) % 256)), upd rd c (nI ((B (8 * c + 2) + (Q c + 1) * dm_S B c 2) % 256)), upd rl c (nI (dm_R B c - (Q c + 1))), upd co c 0, le, ss, ds, nx, ct))
    (k3 : P c + n = dm_L B c → Q c + 1 = dm_R B c → post (f0, f1, f2, f3, f4, f5, nn, ho, cr, dm_cev ev (nI (B (8 * c))) c, wd, md, dm_cst st (nI (B (8 * c))) c, wt, dm_cde de (nI (B (8 * c))) (nI (B (8 * c + 7))) c, upd mv c (mv c + nI n), upd ld c 0, upd rs c (nI ((B (8 * c + 1) + (Q c + 1) * dm_S B c 1) % 256)), upd rd c (nI ((B (8 * c + 2) + (Q c + 1) * dm_S B c 2) % 256)), upd rl c (nI (dm_R B c - (Q c + 1))), upd co c 0, le, ss, ds, nx, ct)) :
    wpX_retire post (f0, f1, f2, f3, f4, f5, nn, ho, cr, ev, wd, md, st, wt, de, mv, ld, rs, rd, rl, co, le, ss, ds, nx, ct) (nI c) (nI n) := by
  have v4 : vp_in (nI c) 4 := vp_in_nI hc (by decide)
  have ecl : (nI c).toNatClampNeg = c := nI_clamp (by omega)
  have hR := dm_R_lt B c
  obtain ⟨x1, x2, x3, x4, x5, x6, x7, x8, x9⟩ := hX
  have ers : (rs c + ss c) &&& 255 = nI ((B (8 * c + 1) + (Q c + 1) * dm_S B c 1) % 256) := by
    rw [x1, x6, nI_add, dm_a255, Nat.mod_add_mod, Nat.add_mul (Q c) 1, Nat.one_mul, ← Nat.add_assoc]
  have erd : (rd c + ds c) &&& 255 = nI ((B (8 * c + 2) + (Q c + 1) * dm_S B c 2) % 256) := by
    rw [x2, x7, nI_add, dm_a255, Nat.mod_add_mod, Nat.add_mul (Q c) 1, Nat.one_mul, ← Nat.add_assoc]
  have erl : rl c - 1 = nI (dm_R B c - (Q c + 1)) := by
    rw [x3, show (1 : Int32) = nI 1 from rfl, pk_sub (by omega)]
    exact congrArg nI (by omega)
  unfold wpX_retire
  refine ⟨v4, v4, ?_⟩
  rw [ecl]
  refine nm_e ⟨v4, v4, nm_r (e' := upd co c (nI (P c + n))) (by rw [x4, nI_add]) ⟨v4, v4, ?_⟩⟩
  rw [pk_us, x5, dm_uu, ers, erd, erl]
  refine pk_le (dm_L B c) (P c + n) (fun z => ⟨v4, nm_e ⟨v4, v4, v4, nm_e ⟨v4, v4, v4, nm_e ⟨v4, v4, nm_e ⟨v4, ?_⟩⟩⟩⟩⟩) (fun z => k1 z)
  rw [pk_us]
  refine pk_eq (dm_R B c - (Q c + 1)) 0 (fun y => ?_) (fun y => k2 (by omega) (by omega))
  exact dm_xcomplete hc x9 x8 (k3 (by omega) (by omega))
end
end
section
/-! ===== the reference's single moves ===== -/
section
variable {f0 f1 f2 f3 f4 f5 nn ho cr ev : Int32} {wd md st wt de mv ld rs rd rl co le ss ds nx ct me dc kk : Nat → Int32} {N H C : Nat} {B Q P : Nat → Nat} {c : Nat}
theorem dm_yK {G : Int32 → Prop} {s : Nat} (hc : c < 4) (hs : s < 4) (l1 : ¬ ld c = 0) (hB : dm_FB B Q P ld) (hY : dm_FY B Q P ld dc kk) (h : G (nI (dm_ad B c (dm_K B Q P c) s))) : wpY_address G (nn, ho, cr, ev, me, md, st, wt, de, mv, ld, dc, kk) (nI c) (kk c) (nI s) := by
  have hb := hB.2 c hc l1
  have hKT := dm_K_T hb.1 hb.2
  have hT := dm_T_lt (B := B) (c := c) (hB.1 _ (by omega))
  rw [hY.2.2 c hc l1]
  exact dm_yadr hc hs (by omega) hB.1 hY.1 (by omega) h
theorem dm_ymove {G : SY → Prop} (hc : c < 4) (l1 : ¬ ld c = 0) (hB : dm_FB B Q P ld) (hY : dm_FY B Q P ld dc kk)
    (k6 : ¬ dm_rb md (dm_ad B c (dm_K B Q P c) 1) → G (nn, ho, cr, ev, me, md, upd st c 6, wt, de, mv, ld, dc, kk))
    (k7 : dm_rb md (dm_ad B c (dm_K B Q P c) 1) → ¬ dm_wb md (dm_ad B c (dm_K B Q P c) 2) → G (nn, ho, cr, ev, me, md, upd st c 7, wt, de, mv, ld, dc, kk))
    (k1 : dm_rb md (dm_ad B c (dm_K B Q P c) 1) → dm_wb md (dm_ad B c (dm_K B Q P c) 2) → dm_K B Q P c + 1 = dm_T B c → G (nn, ho, cr, dm_cev ev (nI (B (8 * c))) c, upd me (dm_ad B c (dm_K B Q P c) 2) (me (dm_ad B c (dm_K B Q P c) 1)), md, dm_cst st (nI (B (8 * c))) c, wt, dm_cde de (nI (B (8 * c))) (nI (B (8 * c + 7))) c, upd mv c (mv c + 1), upd ld c 0, dc, upd kk c (nI (dm_K B Q P c + 1))))
    (k0 : dm_rb md (dm_ad B c (dm_K B Q P c) 1) → dm_wb md (dm_ad B c (dm_K B Q P c) 2) → dm_K B Q P c + 1 ≠ dm_T B c → G (nn, ho, cr, ev, upd me (dm_ad B c (dm_K B Q P c) 2) (me (dm_ad B c (dm_K B Q P c) 1)), md, st, wt, de, upd mv c (mv c + 1), ld, dc, upd kk c (nI (dm_K B Q P c + 1)))) :
    wpY_move G (nn, ho, cr, ev, me, md, st, wt, de, mv, ld, dc, kk) (nI c) := by
  have v4 : vp_in (nI c) 4 := vp_in_nI hc (by decide)
  have ecl : (nI c).toNatClampNeg = c := nI_clamp (by omega)
  have hb := hB.2 c hc l1
  have hKT := dm_K_T hb.1 hb.2
  have hLb : dm_L B c < 256 := hB.1 _ (by omega)
  have hT := dm_T_lt hLb
  have hk := hY.2.2 c hc l1
  have hf := dm_ad_lt B c (dm_K B Q P c) 1
  have ht := dm_ad_lt B c (dm_K B Q P c) 2
  unfold wpY_move
  refine ⟨v4, ?_⟩
  rw [ecl]
  refine dm_yK (s := 1) hc (by decide) l1 hB hY ⟨v4, ?_⟩
  refine dm_yK (s := 2) hc (by decide) l1 hB hY ?_
  generalize dm_ad B c (dm_K B Q P c) 1 = f at k6 k7 k1 k0 hf ⊢
  generalize dm_ad B c (dm_K B Q P c) 2 = t at k7 k1 k0 ht ⊢
  rw [dm_sr4 (by omega), dm_sr4 (by omega), nI_clamp (n := f / 16) (by omega), nI_clamp (n := t / 16) (by omega), nI_clamp (n := f) (by omega), nI_clamp (n := t) (by omega)]
  refine ⟨vp_in_nI (by omega) (by decide), br_c (fun z => ⟨v4, nm_e (k6 (fun q => q z))⟩) (fun z => ⟨vp_in_nI (by omega) (by decide), br_c (fun y => ⟨v4, nm_e (k7 z (fun q => q y))⟩) (fun y => ?_)⟩)⟩
  refine ⟨vp_in_nI (by omega) (by decide), vp_in_nI (by omega) (by decide), nm_e ⟨v4, v4, nm_r (e' := upd kk c (nI (dm_K B Q P c + 1))) (by rw [hk, nI_1]) ⟨v4, v4, nm_e ?_⟩⟩⟩
  exact dm_ycomp hc hY.1 pk_us (by omega) hLb (k1 z y) (k0 z y)
/-- one round of the reference's run, behind its choice -/
theorem dm_yrun {post : Int32 → SY → Prop} {h0 c0 : Int32} {m done steps : Nat} (hch : ∀ post' : Int32 → SY → Prop, post' 1 (nI N, nI H, nI C, ev, me, md, st, wt, de, mv, ld, dc, kk) → wpY_choose post' (nI N, h0, c0, ev, me, md, st, wt, de, mv, ld, dc, kk)) (hH : H < 4) (hC : 1 ≤ C) (hd : done < steps) (hs : steps ≤ 256)
    (kf : ld H = 0 → ∀ G : SY → Prop, (∀ (nn' ho' cr' ev' : Int32) (me' md' st' wt' de' mv' ld' dc' kk' : Nat → Int32), wY_run_17 post (nI steps) m (nI (done + 1)) nn' ho' cr' ev' me' md' st' wt' de' mv' ld' dc' kk' → G (nn', ho', cr', ev', me', md', st', wt', de', mv', ld', dc', kk')) → wpY_fetch G (nI N, nI H, nI (C - 1), ev, me, md, st, wt, de, mv, ld, dc, kk) (nI H))
    (km : ¬ ld H = 0 → ∀ G : SY → Prop, (∀ (nn' ho' cr' ev' : Int32) (me' md' st' wt' de' mv' ld' dc' kk' : Nat → Int32), wY_run_17 post (nI steps) m (nI (done + 1)) nn' ho' cr' ev' me' md' st' wt' de' mv' ld' dc' kk' → G (nn', ho', cr', ev', me', md', st', wt', de', mv', ld', dc', kk')) → wpY_move G (nI N, nI H, nI (C - 1), ev, me, md, st, wt, de, mv, ld, dc, kk) (nI H)) :
    wY_run_17 post (nI steps) (m + 1) (nI done) (nI N) h0 c0 ev me md st wt de mv ld dc kk := by
  refine br_f (nI_ge hd (by omega)) ?_
  refine hch _ (br_f (by decide) ?_)
  refine nm_r (e' := nI (C - 1)) (by rw [show (1 : Int32) = nI 1 from rfl, pk_sub hC]) ⟨vp_in_nI hH (by decide), ?_⟩
  rw [nI_clamp (by omega)]
  refine br_c (fun z => kf z _ ?_) (fun z => km z _ ?_)
  · intro nn' ho' cr' ev' me' md' st' wt' de' mv' ld' dc' kk' h
    exact nm_r (nI_1 done) h
  · intro nn' ho' cr' ev' me' md' st' wt' de' mv' ld' dc' kk' h
    exact nm_r (nI_1 done) h
end
/-! the memory after j single moves -/
def dm_mes (me : Nat → Int32) (f t : Nat) : Nat → (Nat → Int32)
  | 0 => me
  | j + 1 => upd (dm_mes me f t j) (t + j) (dm_mes me f t j (f + j))
theorem dm_mes_at {me : Nat → Int32} {f t n : Nat} (hf : f < 256) (ht : t < 256) (hv : f = t ∨ n ≤ (t + 256 - f) % 256) : ∀ j, j ≤ n → ∀ a, dm_mes me f t j a = if t ≤ a ∧ a < t + j then me (f + (a - t)) else me a := by
  intro j
  induction j with
  | zero =>
    intro _ a
    rw [if_neg (by omega)]; rfl
  | succ j ih =>
    intro hj a
    show upd (dm_mes me f t j) (t + j) (dm_mes me f t j (f + j)) a = _
    have hno := dm_cpn (a := t + j) (lim := t + j) (n := n) hf ht hv (by omega) (by omega) (Nat.le_refl _)
    rw [Nat.add_sub_cancel_left] at hno
    rw [ih (by omega) (f + j), if_neg (by omega)]
    by_cases e : a = t + j
    · subst e
      rw [pk_us, if_pos (by omega), Nat.add_sub_cancel_left]
    · rw [pk_un e, ih (by omega) a]
      by_cases g : t ≤ a ∧ a < t + j
      · rw [if_pos g, if_pos (by omega)]
      · rw [if_neg g, if_neg (by omega)]
section
variable {f0 f1 f2 f3 f4 f5 nn ho cr ev : Int32} {wd md st wt de mv ld rs rd rl co le ss ds nx ct me dc kk : Nat → Int32} {N H C : Nat} {B Q P : Nat → Nat} {c : Nat}
theorem dm_St_nu {j x : Nat} (h : dm_St B Q (dm_nu P c j) ld st c x) : dm_St B Q P ld st c x := by
  obtain ⟨e, a, b, i, d1, d2, d3⟩ := h
  refine ⟨e, a, b, i, ?_, d2, d3⟩
  rw [dm_K_cg (B' := B) (B := B) (Q' := Q) (Q := Q) (P' := dm_nu P c j) (P := P) (fun _ _ => rfl) rfl (dm_nu_n (by omega))] at d1
  exact d1
/-- the reference does n moves while the holder keeps the grant -/
theorem dm_yburst {post : Int32 → SY → Prop} {m done steps bud n f t : Nat} (hN : N ≤ 4) (hH : H < N) (hC : n ≤ C) (hC2 : C ≤ 32) (hs : steps ≤ 256) (hds : done + n ≤ steps) (l1 : ¬ ld H = 0) (hB : dm_FB B Q P ld) (hY : dm_FY B Q P ld dc kk) (hS : ∀ e, e < 4 → ∃ s, s < 8 ∧ st e = nI s)
    (s1 : st H = 1) (ok : dm_ok B Q P ld st H bud n) (ef : dm_ad B H (dm_K B Q P H) 1 = f) (et : dm_ad B H (dm_K B Q P H) 2 = t) (hr : dm_rb md f) (hw : dm_wb md t)
    (k1 : dm_K B Q P H + n = dm_T B H → wY_run_17 post (nI steps) m (nI (done + n)) (nI N) (nI H) (nI (C - n)) (dm_cev ev (nI (B (8 * H))) H) (dm_mes me f t n) md (dm_cst st (nI (B (8 * H))) H) wt (dm_cde de (nI (B (8 * H))) (nI (B (8 * H + 7))) H) (upd mv H (mv H + nI n)) (upd ld H 0) dc (upd kk H (nI (dm_K B Q P H + n))))
    (k0 : dm_K B Q P H + n ≠ dm_T B H → wY_run_17 post (nI steps) m (nI (done + n)) (nI N) (nI H) (nI (C - n)) ev (dm_mes me f t n) md st wt de (upd mv H (mv H + nI n)) ld dc (upd kk H (nI (dm_K B Q P H + n)))) :
    ∀ d j h0 c0, j + d + 1 = n →
      (∀ post' : Int32 → SY → Prop, post' 1 (nI N, nI H, nI (C - j), ev, dm_mes me f t j, md, st, wt, de, upd mv H (mv H + nI j), ld, dc, upd kk H (nI (dm_K B Q P H + j))) → wpY_choose post' (nI N, h0, c0, ev, dm_mes me f t j, md, st, wt, de, upd mv H (mv H + nI j), ld, dc, upd kk H (nI (dm_K B Q P H + j)))) →
      wY_run_17 post (nI steps) (m + d + 1) (nI (done + j)) (nI N) h0 c0 ev (dm_mes me f t j) md st wt de (upd mv H (mv H + nI j)) ld dc (upd kk H (nI (dm_K B Q P H + j))) := by
  obtain ⟨o1, o2, o3, o4, o5, o6, o7⟩ := ok
  have hb := hB.2 H (by omega) l1
  have hKT := dm_K_T hb.1 hb.2
  have hLb : dm_L B H < 256 := hB.1 _ (by omega)
  have hT := dm_T_lt hLb
  have hf : f < 256 := by rw [← ef]; exact dm_ad_lt _ _ _ _
  have ht : t < 256 := by rw [← et]; exact dm_ad_lt _ _ _ _
  have hend : dm_K B Q P H + (dm_L B H - P H) ≤ dm_T B H := by
    unfold dm_K dm_T
    have a : (Q H + 1) * dm_L B H ≤ dm_R B H * dm_L B H := Nat.mul_le_mul_right _ (by omega)
    rw [Nat.add_mul _ 1, Nat.one_mul] at a
    rw [Nat.mul_comm (dm_L B H) (dm_R B H)]
    omega
  -- the facts at move j
  have FBj : ∀ j, j < n → dm_FB B Q (dm_nu P H (P H + j)) ld := by
    intro j hj
    refine dm_FB_at (c := H) hB (fun _ _ => rfl) (fun _ _ => rfl) (fun e q => dm_nu_n q) (fun _ => ?_)
    rw [dm_nu_s]; exact ⟨by omega, hb.2⟩
  have Kj : ∀ j, dm_K B Q (dm_nu P H (P H + j)) H = dm_K B Q P H + j := by
    intro j
    unfold dm_K
    rw [dm_nu_s, Nat.add_assoc]
  have FYj : ∀ j, j < n → dm_FY B Q (dm_nu P H (P H + j)) ld dc (upd kk H (nI (dm_K B Q P H + j))) := by
    intro j hj
    refine dm_FY_at (c := H) (m := dm_K B Q P H + j) hY (fun _ _ => rfl) (fun _ _ => rfl) (fun e q => dm_nu_n q) (fun e q => pk_un q) (by omega) pk_us (fun _ => (Kj j).symm)
  have adj : ∀ j s, j < n → dm_ad B H (dm_K B Q (dm_nu P H (P H + j)) H) s = (dm_ad B H (dm_K B Q P H) s + j) % 256 := by
    intro j s hj
    rw [dm_ad_K (P := dm_nu P H (P H + j)) (by rw [dm_nu_s]; omega), dm_ad_K hb.1, dm_nu_s, Nat.mod_add_mod, ← Nat.add_assoc (B (8 * H + s) + Q H * dm_S B H s)]
  have ad1 : ∀ j, j < n → dm_ad B H (dm_K B Q (dm_nu P H (P H + j)) H) 1 = f + j := by
    intro j hj
    rw [adj j 1 hj, ef]
    rw [ef] at o4
    omega
  have ad2 : ∀ j, j < n → dm_ad B H (dm_K B Q (dm_nu P H (P H + j)) H) 2 = t + j := by
    intro j hj
    rw [adj j 2 hj, et]
    rw [et] at o5
    omega
  have Rdj : ∀ j, j < n → dm_Rd B Q (dm_nu P H (P H + j)) ld st H := by
    intro j hj
    refine ⟨s1, fun z => ?_⟩
    have z3 := dm_St_nu z.2.2.2
    rw [adj j 1 hj] at z3
    exact o7 z.2.2.1 j hj z3
  have rbj : ∀ j, j < n → dm_rb md (f + j) := by
    intro j hj
    rw [ef] at o4
    unfold dm_rb at hr ⊢
    rw [show (f + j) / 16 = f / 16 from by omega]; exact hr
  have wbj : ∀ j, j < n → dm_wb md (t + j) := by
    intro j hj
    rw [et] at o5
    unfold dm_wb at hw ⊢
    rw [show (t + j) / 16 = t / 16 from by omega]; exact hw
  have emv : ∀ j, upd (upd mv H (mv H + nI j)) H (upd mv H (mv H + nI j) H + 1) = upd mv H (mv H + nI (j + 1)) := by
    intro j
    rw [dm_uu, pk_us, Int32.add_assoc, nI_1]
  have ekk : ∀ j, upd (upd kk H (nI (dm_K B Q P H + j))) H (nI (dm_K B Q P H + j + 1)) = upd kk H (nI (dm_K B Q P H + (j + 1))) := by
    intro j
    rw [dm_uu, Nat.add_assoc]
  intro d
  induction d with
  | zero =>
    intro j h0 c0 hj hch
    have hj' : j < n := by omega
    refine dm_yrun hch (by omega) (by omega) (by omega) hs (fun z => absurd z l1) (fun _ G hG => ?_)
    refine dm_ymove (P := dm_nu P H (P H + j)) (by omega) l1 (FBj j hj') (FYj j hj') (fun q => absurd ?_ q) (fun _ q => absurd ?_ q) (fun _ _ q => hG _ _ _ _ _ _ _ _ _ _ _ _ _ ?_) (fun _ _ q => hG _ _ _ _ _ _ _ _ _ _ _ _ _ ?_)
    · rw [ad1 j hj']; exact rbj j hj'
    · rw [ad2 j hj']; exact wbj j hj'
    · rw [Kj] at q ⊢
      have hk := k1 (by omega)
      have en : n = j + 1 := by omega
      subst en
      rw [← Kj j, ad1 j hj', ad2 j hj', Kj j, emv, ekk, Nat.sub_sub]
      exact hk
    · rw [Kj] at q ⊢
      have hk := k0 (by omega)
      have en : n = j + 1 := by omega
      subst en
      rw [← Kj j, ad1 j hj', ad2 j hj', Kj j, emv, ekk, Nat.sub_sub]
      exact hk
  | succ d ih =>
    intro j h0 c0 hj hch
    have hj' : j < n := by omega
    refine dm_yrun hch (by omega) (by omega) (by omega) hs (fun z => absurd z l1) (fun _ G hG => ?_)
    refine dm_ymove (P := dm_nu P H (P H + j)) (by omega) l1 (FBj j hj') (FYj j hj') (fun q => absurd ?_ q) (fun _ q => absurd ?_ q) (fun _ _ q => ?_) (fun _ _ q => hG _ _ _ _ _ _ _ _ _ _ _ _ _ ?_)
    · rw [ad1 j hj']; exact rbj j hj'
    · rw [ad2 j hj']; exact wbj j hj'
    · rw [Kj] at q
      omega
    · rw [ad1 j hj', ad2 j hj', Kj j, emv, ekk, Nat.sub_sub]
      refine ih (j + 1) _ _ (by omega) (fun post' h => ?_)
      exact dm_keep hN hH (by omega) (by omega) (FBj (j + 1) (by omega)) (FYj (j + 1) (by omega)) hS (Rdj (j + 1) (by omega)) h
end
end
section
/-! ===== the facts after a burst ===== -/
section
variable {f0 f1 f2 f3 f4 f5 nn ho cr ev : Int32} {wd md st wt de mv ld rs rd rl co le ss ds nx ct me dc kk : Nat → Int32} {N H C : Nat} {B Q P : Nat → Nat} {c n : Nat} {wd' me' : Nat → Int32}
theorem dm_F_hc {H' C' : Nat} (F : dm_F N H C B Q P wd st wt de ld rs rd rl co le ss ds nx ct me dc kk) (h1 : H' < N) (h2 : C' ≤ 32) : dm_F N H' C' B Q P wd st wt de ld rs rd rl co le ss ds nx ct me dc kk := ⟨⟨F.1.1, F.1.2.1, h1, h2⟩, F.2⟩
theorem dm_F_A (F : dm_F N H C B Q P wd st wt de ld rs rd rl co le ss ds nx ct me dc kk) (hM : dm_MR wd' me') (hc : c < 4) (l1 : ¬ ld c = 0) (hn : P c + n < dm_L B c) : dm_F N H C B Q (dm_nu P c (P c + n)) wd' st wt de ld rs rd rl (upd co c (nI (P c + n))) le ss ds nx ct me' dc (upd kk c (nI (dm_K B Q P c + n))) ∧ dm_K B Q P c + n ≠ dm_T B c := by
  obtain ⟨h1, h2, _, hB, hX, hY⟩ := F
  have hb := hB.2 c hc l1
  have hLb : dm_L B c < 256 := hB.1 _ (by omega)
  have hT := dm_T_lt hLb
  have eK : dm_K B Q (dm_nu P c (P c + n)) c = dm_K B Q P c + n := by
    unfold dm_K; rw [dm_nu_s, Nat.add_assoc]
  have lt : dm_K B Q P c + n < dm_T B c := by
    rw [← eK]
    exact dm_K_T (by rw [dm_nu_s]; exact hn) hb.2
  refine ⟨⟨h1, h2, hM, ?_, ?_, ?_⟩, by omega⟩
  · refine dm_FB_at (c := c) hB (fun _ _ => rfl) (fun _ _ => rfl) (fun e q => dm_nu_n q) (fun _ => ?_)
    rw [dm_nu_s]; exact ⟨hn, hb.2⟩
  · refine dm_FX_at (c := c) hX (fun _ _ => rfl) (fun _ _ => rfl) (fun e q => dm_nu_n q) (fun _ _ => rfl) (fun _ _ => rfl) (fun _ _ => rfl) (fun e q => pk_un q) (fun _ _ => rfl) (fun _ _ => rfl) (fun _ _ => rfl) (fun _ _ => rfl) (fun _ _ => rfl) (fun _ => ?_)
    obtain ⟨x1, x2, x3, x4, x5⟩ := hX c hc l1
    unfold dm_CX
    rw [dm_nu_s]
    exact ⟨x1, x2, x3, pk_us, x5⟩
  · exact dm_FY_at (c := c) (m := dm_K B Q P c + n) hY (fun _ _ => rfl) (fun _ _ => rfl) (fun e q => dm_nu_n q) (fun e q => pk_un q) (by omega) pk_us (fun _ => eK.symm)
theorem dm_F_B (F : dm_F N H C B Q P wd st wt de ld rs rd rl co le ss ds nx ct me dc kk) (hM : dm_MR wd' me') (hc : c < 4) (l1 : ¬ ld c = 0) (hn : P c + n = dm_L B c) (hq : Q c + 1 < dm_R B c) : dm_F N H C B (dm_nu Q c (Q c + 1)) (dm_nu P c 0) wd' st wt de ld (upd rs c (nI ((B (8 * c + 1) + (Q c + 1) * dm_S B c 1) % 256))) (upd rd c (nI ((B (8 * c + 2) + (Q c + 1) * dm_S B c 2) % 256))) (upd rl c (nI (dm_R B c - (Q c + 1)))) (upd co c 0) le ss ds nx ct me' dc (upd kk c (nI (dm_K B Q P c + n))) ∧ dm_K B Q P c + n ≠ dm_T B c := by
  obtain ⟨h1, h2, _, hB, hX, hY⟩ := F
  have hb := hB.2 c hc l1
  have hLb : dm_L B c < 256 := hB.1 _ (by omega)
  have hT := dm_T_lt hLb
  have eK : dm_K B (dm_nu Q c (Q c + 1)) (dm_nu P c 0) c = dm_K B Q P c + n := by
    unfold dm_K
    rw [dm_nu_s, dm_nu_s, Nat.add_assoc, hn, Nat.add_mul (Q c) 1, Nat.one_mul]
    rfl
  have lt : dm_K B Q P c + n < dm_T B c := by
    rw [← eK]
    exact dm_K_T (by rw [dm_nu_s]; omega) (by rw [dm_nu_s]; exact hq)
  refine ⟨⟨h1, h2, hM, ?_, ?_, ?_⟩, by omega⟩
  · refine dm_FB_at (c := c) hB (fun _ _ => rfl) (fun e q => dm_nu_n q) (fun e q => dm_nu_n q) (fun _ => ?_)
    rw [dm_nu_s, dm_nu_s]; exact ⟨by omega, hq⟩
  · refine dm_FX_at (c := c) hX (fun _ _ => rfl) (fun e q => dm_nu_n q) (fun e q => dm_nu_n q) (fun e q => pk_un q) (fun e q => pk_un q) (fun e q => pk_un q) (fun e q => pk_un q) (fun _ _ => rfl) (fun _ _ => rfl) (fun _ _ => rfl) (fun _ _ => rfl) (fun _ _ => rfl) (fun _ => ?_)
    obtain ⟨x1, x2, x3, x4, x5⟩ := hX c hc l1
    unfold dm_CX
    rw [dm_nu_s, dm_nu_s]
    exact ⟨pk_us, pk_us, pk_us, pk_us, x5⟩
  · exact dm_FY_at (c := c) (m := dm_K B Q P c + n) hY (fun _ _ => rfl) (fun e q => dm_nu_n q) (fun e q => dm_nu_n q) (fun e q => pk_un q) (by omega) pk_us (fun _ => eK.symm)
theorem dm_F_C (F : dm_F N H C B Q P wd st wt de ld rs rd rl co le ss ds nx ct me dc kk) (hM : dm_MR wd' me') (hc : c < 4) (l1 : ¬ ld c = 0) (hn : P c + n = dm_L B c) (hq : Q c + 1 = dm_R B c) : dm_F N H C B Q P wd' (dm_cst st (nI (B (8 * c))) c) wt (dm_cde de (nI (B (8 * c))) (nI (B (8 * c + 7))) c) (upd ld c 0) (upd rs c (nI ((B (8 * c + 1) + (Q c + 1) * dm_S B c 1) % 256))) (upd rd c (nI ((B (8 * c + 2) + (Q c + 1) * dm_S B c 2) % 256))) (upd rl c (nI (dm_R B c - (Q c + 1)))) (upd co c 0) le ss ds nx ct me' dc (upd kk c (nI (dm_K B Q P c + n))) ∧ dm_K B Q P c + n = dm_T B c := by
  have hLb : dm_L B c < 256 := F.2.2.2.1.1 _ (by omega)
  have hT := dm_T_lt hLb
  have eT : dm_K B Q P c + n = dm_T B c := by
    unfold dm_K dm_T
    rw [Nat.add_assoc, hn, ← hq, Nat.mul_comm (dm_L B c), Nat.add_mul (Q c) 1, Nat.one_mul]
  have F2 : dm_F N H C B Q P wd' st wt de ld rs rd rl co le ss ds nx ct me' dc kk := ⟨F.1, F.2.1, hM, F.2.2.2⟩
  exact ⟨dm_F_off (c := c) (m := dm_K B Q P c + n) F2 (by omega) pk_us (fun e q => pk_un q) (fun e q => pk_un q) (fun e q => pk_un q) (fun e q => pk_un q) (fun e q => pk_un q) (fun _ _ => rfl) (fun _ _ => rfl) (fun _ _ => rfl) (fun _ _ => rfl) (fun _ _ => rfl) hc, eT⟩
end
/-! ===== the component's move; the reference's burst from its start ===== -/
section
variable {f0 f1 f2 f3 f4 f5 nn ho cr ev : Int32} {wd md st wt de mv ld rs rd rl co le ss ds nx ct me dc kk : Nat → Int32} {N H C : Nat} {B Q P : Nat → Nat} {c : Nat}
theorem dm_xmove {post : Int32 → SX → Prop} {bud f t : Nat} (hc : c < 4) (l1 : ¬ ld c = 0) (hB : dm_FB B Q P ld) (hX : dm_FX B Q P ld rs rd rl co le ss ds nx ct) (hS : ∀ e, e < 4 → ∃ s, s < 8 ∧ st e = nI s) (s1 : st c = 1) (ns : ¬ dm_Sd B Q P ld st c) (b1 : 1 ≤ bud) (b2 : bud ≤ 256)
    (ef : dm_ad B c (dm_K B Q P c) 1 = f) (et : dm_ad B c (dm_K B Q P c) 2 = t)
    (k6 : ¬ dm_rb md f → post 1 (f0, f1, f2, f3, f4, f5, nn, ho, cr, ev, wd, md, upd st c 6, wt, de, mv, ld, rs, rd, rl, co, le, ss, ds, nx, ct)) (k7 : dm_rb md f → ¬ dm_wb md t → post 1 (f0, f1, f2, f3, f4, f5, nn, ho, cr, ev, wd, md, upd st c 7, wt, de, mv, ld, rs, rd, rl, co, le, ss, ds, nx, ct))
    (k1 : dm_rb md f → dm_wb md t → ∀ n w, dm_ok B Q P ld st c bud n → (∀ a, a < 256 → dm_lb w a = if t ≤ a ∧ a < t + n then dm_lb wd (f + (a - t)) else dm_lb wd a) → P c + n < dm_L B c → post (nI n) (f0, f1, f2, f3, f4, f5, nn, ho, cr, ev, w, md, st, wt, de, upd mv c (mv c + nI n), ld, rs, rd, rl, upd co c (nI (P c + n)), le, ss, ds, nx, ct))
    (k2 : dm_rb md f → dm_wb md t → ∀ n w, dm_ok B Q P ld st c bud n → (∀ a, a < 256 → dm_lb w a = if t ≤ a ∧ a < t + n then dm_lb wd (f + (a - t)) else dm_lb wd a) → P c + n = dm_L B c → Q c + 1 < dm_R B c → post (nI n) (f0, f1, f2, f3, f4, f5, nn, ho, cr, ev, w, md, st, wt, de, upd mv c (mv c + nI n), ld, upd rs c (nI ((B (8 * c + 1) + (Q c + 1) * dm_S B c 1) % 256)), upd rd c (nI ((B (8 * c + 2) + (Q c + 1) * dm_S B c 2) % 256)), upd rl c (nI (dm_R B c - (Q c + 1))), upd co c 0, le, ss, ds, nx, ct))
    (k3 : dm_rb md f → dm_wb md t → ∀ n w, dm_ok B Q P ld st c bud n → (∀ a, a < 256 → dm_lb w a = if t ≤ a ∧ a < t + n then dm_lb wd (f + (a - t)) else dm_lb wd a) → P c + n = dm_L B c → Q c + 1 = dm_R B c → post (nI n) (f0, f1, f2, f3, f4, f5, nn, ho, cr, dm_cev ev (nI (B (8 * c))) c, w, md, dm_cst st (nI (B (8 * c))) c, wt, dm_cde de (nI (B (8 * c))) (nI (B (8 * c + 7))) c, upd mv c (mv c + nI n), upd ld c 0, upd rs c (nI ((B (8 * c + 1) + (Q c + 1) * dm_S B c 1) % 256)), upd rd c (nI ((B (8 * c + 2) + (Q c + 1) * dm_S B c 2) % 256)), upd rl c (nI (dm_R B c - (Q c + 1))), upd co c 0, le, ss, ds, nx, ct)) :
    wpX_move post (f0, f1, f2, f3, f4, f5, nn, ho, cr, ev, wd, md, st, wt, de, mv, ld, rs, rd, rl, co, le, ss, ds, nx, ct) (nI c) (nI bud) := by
  have v4 : vp_in (nI c) 4 := vp_in_nI hc (by decide)
  have ecl : (nI c).toNatClampNeg = c := nI_clamp (by omega)
  have hb := hB.2 c hc l1
  have hx := hX c hc l1
  have hLb : dm_L B c < 256 := hB.1 _ (by omega)
  have hf : f < 256 := by rw [← ef]; exact dm_ad_lt _ _ _ _
  have ht : t < 256 := by rw [← et]; exact dm_ad_lt _ _ _ _
  have e1 : nI f &&& 255 = nI f := by rw [dm_a255, Nat.mod_eq_of_lt hf]
  have e2 : nI t &&& 255 = nI t := by rw [dm_a255, Nat.mod_eq_of_lt ht]
  unfold wpX_move
  refine dm_xsrc hc hb.1 hx ?_
  refine dm_xdst hc hb.1 hx ?_
  rw [ef, et, ecl]
  refine dm_xrd hf e1 (fun r => br_f (by decide) ?_) (fun r => br_t rfl ⟨v4, nm_e (k6 r)⟩)
  refine dm_xwr ht e2 (fun w => br_f (by decide) ?_) (fun w => br_t rfl ⟨v4, nm_e (k7 r w)⟩)
  refine dm_xlen hc l1 hB hX hS s1 ns b1 b2 ?_
  intro n ok
  have ok' := ok
  obtain ⟨o1, o2, o3, o4, o5, o6, o7⟩ := ok'
  rw [ef] at o4
  rw [et] at o5
  rw [ef, et] at o6
  refine dm_xcopy hf ht o1 o4 o5 o6 ?_
  intro w' hw'
  exact dm_xretire hc hx hb.1 o3 hb.2 hLb (fun q => k1 r w n w' ok hw' q) (fun q q2 => k2 r w n w' ok hw' q q2) (fun q q2 => k3 r w n w' ok hw' q q2)
theorem dm_yburst0 {post : Int32 → SY → Prop} {h0 c0 : Int32} {m done steps bud n f t : Nat} (hN : N ≤ 4) (hH : H < N) (hC : n ≤ C) (hC2 : C ≤ 32) (hs : steps ≤ 256) (hds : done + n ≤ steps) (l1 : ¬ ld H = 0) (hB : dm_FB B Q P ld) (hY : dm_FY B Q P ld dc kk) (hS : ∀ e, e < 4 → ∃ s, s < 8 ∧ st e = nI s)
    (s1 : st H = 1) (ok : dm_ok B Q P ld st H bud n) (ef : dm_ad B H (dm_K B Q P H) 1 = f) (et : dm_ad B H (dm_K B Q P H) 2 = t) (hr : dm_rb md f) (hw : dm_wb md t)
    (hch : ∀ post' : Int32 → SY → Prop, post' 1 (nI N, nI H, nI C, ev, me, md, st, wt, de, mv, ld, dc, kk) → wpY_choose post' (nI N, h0, c0, ev, me, md, st, wt, de, mv, ld, dc, kk))
    (k1 : dm_K B Q P H + n = dm_T B H → wY_run_17 post (nI steps) m (nI (done + n)) (nI N) (nI H) (nI (C - n)) (dm_cev ev (nI (B (8 * H))) H) (dm_mes me f t n) md (dm_cst st (nI (B (8 * H))) H) wt (dm_cde de (nI (B (8 * H))) (nI (B (8 * H + 7))) H) (upd mv H (mv H + nI n)) (upd ld H 0) dc (upd kk H (nI (dm_K B Q P H + n))))
    (k0 : dm_K B Q P H + n ≠ dm_T B H → wY_run_17 post (nI steps) m (nI (done + n)) (nI N) (nI H) (nI (C - n)) ev (dm_mes me f t n) md st wt de (upd mv H (mv H + nI n)) ld dc (upd kk H (nI (dm_K B Q P H + n)))) :
    wY_run_17 post (nI steps) (m + n) (nI done) (nI N) h0 c0 ev me md st wt de mv ld dc kk := by
  have W := dm_yburst hN hH hC hC2 hs hds l1 hB hY hS s1 ok ef et hr hw k1 k0 (n - 1) 0 h0 c0 (by have := ok.1; omega)
  have ek : upd kk H (nI (dm_K B Q P H + 0)) = kk := dm_usame (hY.2.2 H (by omega) l1)
  have em : upd mv H (mv H + nI 0) = mv := dm_usame (by rw [nI_0, Int32.add_zero])
  have en : m + (n - 1) + 1 = m + n := by have := ok.1; omega
  rw [ek, em, en] at W
  exact W hch
end
end
section
/-! ===== run: a turn of the component is one or more rounds of the reference ===== -/
theorem dm_MR_cp {wd w me : Nat → Int32} {f t n : Nat} (hf : f < 256) (ht : t < 256) (hfn : f % 16 + n ≤ 16) (hv : f = t ∨ n ≤ (t + 256 - f) % 256) (hM : dm_MR wd me) (hw : ∀ a, a < 256 → dm_lb w a = if t ≤ a ∧ a < t + n then dm_lb wd (f + (a - t)) else dm_lb wd a) : dm_MR w (dm_mes me f t n) := by
  intro a ha
  rw [dm_mes_at hf ht hv n (Nat.le_refl _) a, hw a ha]
  by_cases g : t ≤ a ∧ a < t + n
  · rw [if_pos g, if_pos g]; exact hM _ (by omega)
  · rw [if_neg g, if_neg g]; exact hM a ha
theorem dm_run {post : Int32 → SX → Prop} {GY : (Int32 → SY → Prop) → Prop} {steps k : Nat} (hs : steps ≤ 256)
    (fin : ∀ (r : Int32) (u : SX) (v : SY), i_Rel k u v → (∀ postY : Int32 → SY → Prop, postY r v → GY postY) → post r u) :
    ∀ n done turn (f0 f1 f2 f3 f4 f5 ev : Int32) (wd md st wt de mv ld rs rd rl co le ss ds nx ct me dc kk : Nat → Int32) (N H C : Nat) (B Q P : Nat → Nat), dm_F N H C B Q P wd st wt de ld rs rd rl co le ss ds nx ct me dc kk → done ≤ steps → turn ≤ done → steps - done < n →
      (∀ postY : Int32 → SY → Prop, (∀ m, steps - done < m → wY_run_17 postY (nI steps) m (nI done) (nI N) (nI H) (nI C) ev me md st wt de mv ld dc kk) → GY postY) →
      wX_run_19 post (nI steps) n (nI done) (nI turn) f0 f1 f2 f3 f4 f5 (nI N) (nI H) (nI C) ev wd md st wt de mv ld rs rd rl co le ss ds nx ct := by
  intro n
  induction n with
  | zero => intro done turn; intros; omega
  | succ n ih =>
    intro done turn f0 f1 f2 f3 f4 f5 ev wd md st wt de mv ld rs rd rl co le ss ds nx ct me dc kk N H C B Q P F hds htd hn hY
    have stop : done = steps → post (nI done) (f0, f1, f2, f3, f4, f5, nI N, nI H, nI C, ev, wd, md, st, wt, de, mv, ld, rs, rd, rl, co, le, ss, ds, nx, ct) := by
      intro e
      refine fin _ _ _ (dm_mk F) (fun postY h => hY postY (fun m hm => ?_))
      obtain ⟨m', rfl⟩ : ∃ m', m = m' + 1 := ⟨m - 1, by omega⟩
      subst e
      exact br_t (nI_le (Nat.le_refl _) (by omega)) h
    by_cases t1 : turn = steps
    · exact br_t (nI_le (by omega) (by omega)) (stop (by omega))
    refine br_f (nI_ge (by omega) (by omega)) ?_
    by_cases d1 : done = steps
    · exact br_t (nI_le (by omega) (by omega)) (stop d1)
    refine br_f (nI_ge (by omega) (by omega)) ?_
    have hS := F.2.1.1
    have hN := F.1.2.1
    have hB := F.2.2.2.1
    have hX := F.2.2.2.2.1
    have hFY := F.2.2.2.2.2
    rcases dm_grant (f0 := f0) (f1 := f1) (f2 := f2) (f3 := f3) (f4 := f4) (f5 := f5) (ev := ev) (wd := wd) (md := md) (de := de) (mv := mv) (me := me) hN F.1.2.2.1 F.1.2.2.2 hB hX hFY hS F.2.1.2.1 with ⟨gx, gy⟩ | ⟨H', C', hH', c1, c2, hrd, gx, gy⟩
    · refine gx _ (br_t rfl (fin _ _ _ (dm_mk F) (fun postY h => hY postY (fun m hm => ?_))))
      obtain ⟨m', rfl⟩ : ∃ m', m = m' + 1 := ⟨m - 1, by omega⟩
      exact br_f (nI_ge (by omega) (by omega)) (gy _ (br_t rfl h))
    refine gx _ (br_f (by decide) ?_)
    rw [pk_sub (a := steps) (b := done) (by omega)]
    refine dm_xmin (by omega) (by omega) ?_
    have v4 : vp_in (nI H') 4 := vp_in_nI (by omega) (by decide)
    have ecl : (nI H').toNatClampNeg = H' := nI_clamp (by omega)
    unfold wpX_advance
    refine ⟨v4, ?_⟩
    rw [ecl]
    have e1 : nI C' - 1 = nI (C' - 1) := by rw [show (1 : Int32) = nI 1 from rfl, pk_sub c1]
    refine br_c (fun l0 => ?_) (fun l1 => ?_)
    · obtain ⟨ev', st', de', ld', rs', rd', rl', co', le', ss', ds', nx', ct', dc', kk', B', Q', P', F', fx, fy⟩ := dm_fetch (f0 := f0) (f1 := f1) (f2 := f2) (f3 := f3) (f4 := f4) (f5 := f5) (nn := nI N) (ho := nI H') (ev := ev) (md := md) (mv := mv) (dm_F_hc (C' := C' - 1) F hH' (by omega)) (by omega) l0
      refine fx (nI C') _ (nm_r e1 (nm_r (nI_1 done) (nm_r (nI_1 turn) ?_)))
      refine ih (done + 1) (turn + 1) f0 f1 f2 f3 f4 f5 ev' wd md st' wt de' mv ld' rs' rd' rl' co' le' ss' ds' nx' ct' me dc' kk' N H' (C' - 1) B' Q' P' F' (by omega) (by omega) (by omega) (fun postY h => hY postY (fun m hm => ?_))
      obtain ⟨m', rfl⟩ : ∃ m', m = m' + 1 := ⟨m - 1, by omega⟩
      refine dm_yrun gy (by omega) c1 (by omega) hs (fun _ G hG => ?_) (fun q => absurd l0 q)
      exact fy (nI (C' - 1)) G (hG _ _ _ _ _ _ _ _ _ _ _ _ _ (h m' (by omega)))
    · obtain ⟨f, ef⟩ : ∃ f, dm_ad B H' (dm_K B Q P H') 1 = f := ⟨_, rfl⟩
      obtain ⟨t, et⟩ : ∃ t, dm_ad B H' (dm_K B Q P H') 2 = t := ⟨_, rfl⟩
      have hf : f < 256 := by rw [← ef]; exact dm_ad_lt _ _ _ _
      have ht : t < 256 := by rw [← et]; exact dm_ad_lt _ _ _ _
      refine dm_xmove (by omega) l1 hB hX hS hrd.1 hrd.2 (by omega) (by omega) ef et ?_ ?_ ?_ ?_ ?_
      · intro nr
        refine nm_r e1 (nm_r (nI_1 done) (nm_r (nI_1 turn) ?_))
        refine ih (done + 1) (turn + 1) f0 f1 f2 f3 f4 f5 ev wd md _ wt de mv ld rs rd rl co le ss ds nx ct me dc kk N H' (C' - 1) B Q P (dm_F_st (s := 6) (dm_F_hc (C' := C' - 1) F hH' (by omega)) (by decide)) (by omega) (by omega) (by omega) (fun postY h => hY postY (fun m hm => ?_))
        obtain ⟨m', rfl⟩ : ∃ m', m = m' + 1 := ⟨m - 1, by omega⟩
        refine dm_yrun gy (by omega) c1 (by omega) hs (fun q => absurd q l1) (fun _ G hG => ?_)
        refine dm_ymove (by omega) l1 hB hFY (fun _ => hG _ _ _ _ _ _ _ _ _ _ _ _ _ (h m' (by omega))) (fun q => ?_) (fun q => ?_) (fun q => ?_) <;> (rw [ef] at q; exact absurd q nr)
      · intro r nw
        refine nm_r e1 (nm_r (nI_1 done) (nm_r (nI_1 turn) ?_))
        refine ih (done + 1) (turn + 1) f0 f1 f2 f3 f4 f5 ev wd md _ wt de mv ld rs rd rl co le ss ds nx ct me dc kk N H' (C' - 1) B Q P (dm_F_st (s := 7) (dm_F_hc (C' := C' - 1) F hH' (by omega)) (by decide)) (by omega) (by omega) (by omega) (fun postY h => hY postY (fun m hm => ?_))
        obtain ⟨m', rfl⟩ : ∃ m', m = m' + 1 := ⟨m - 1, by omega⟩
        refine dm_yrun gy (by omega) c1 (by omega) hs (fun q => absurd q l1) (fun _ G hG => ?_)
        refine dm_ymove (by omega) l1 hB hFY (fun q => ?_) (fun _ _ => hG _ _ _ _ _ _ _ _ _ _ _ _ _ (h m' (by omega))) (fun _ q => ?_) (fun _ q => ?_)
        · rw [ef] at q; exact absurd r q
        · rw [et] at q; exact absurd q nw
        · rw [et] at q; exact absurd q nw
      · intro r w p wd' ok hw' q1
        have ok' := ok
        obtain ⟨o1, o2, o3, o4, o5, o6, o7⟩ := ok'
        rw [ef] at o4
        rw [ef, et] at o6
        have hM := dm_MR_cp hf ht o4 o6 F.2.2.1 hw'
        obtain ⟨F', nT⟩ := dm_F_A (dm_F_hc (C' := C' - p) F hH' (by omega)) hM (by omega) l1 q1
        refine nm_r (e' := nI (C' - p)) (pk_sub (by omega)) (nm_r (nI_add done p) (nm_r (nI_1 turn) ?_))
        refine ih (done + p) (turn + 1) f0 f1 f2 f3 f4 f5 ev wd' md st wt de _ ld rs rd rl _ le ss ds nx ct _ dc _ N H' (C' - p) B Q _ F' (by omega) (by omega) (by omega) (fun postY h => hY postY (fun m hm => ?_))
        obtain ⟨m', rfl⟩ : ∃ m', m = m' + p := ⟨m - p, by omega⟩
        exact dm_yburst0 hN hH' (by omega) c2 hs (by omega) l1 hB hFY hS hrd.1 ok ef et r w gy (fun q => absurd q nT) (fun _ => h m' (by omega))
      · intro r w p wd' ok hw' q1 q2
        have ok' := ok
        obtain ⟨o1, o2, o3, o4, o5, o6, o7⟩ := ok'
        rw [ef] at o4
        rw [ef, et] at o6
        have hM := dm_MR_cp hf ht o4 o6 F.2.2.1 hw'
        obtain ⟨F', nT⟩ := dm_F_B (dm_F_hc (C' := C' - p) F hH' (by omega)) hM (by omega) l1 q1 q2
        refine nm_r (e' := nI (C' - p)) (pk_sub (by omega)) (nm_r (nI_add done p) (nm_r (nI_1 turn) ?_))
        refine ih (done + p) (turn + 1) f0 f1 f2 f3 f4 f5 ev wd' md st wt de _ ld _ _ _ _ le ss ds nx ct _ dc _ N H' (C' - p) B _ _ F' (by omega) (by omega) (by omega) (fun postY h => hY postY (fun m hm => ?_))
        obtain ⟨m', rfl⟩ : ∃ m', m = m' + p := ⟨m - p, by omega⟩
        exact dm_yburst0 hN hH' (by omega) c2 hs (by omega) l1 hB hFY hS hrd.1 ok ef et r w gy (fun q => absurd q nT) (fun _ => h m' (by omega))
      · intro r w p wd' ok hw' q1 q2
        have ok' := ok
        obtain ⟨o1, o2, o3, o4, o5, o6, o7⟩ := ok'
        rw [ef] at o4
        rw [ef, et] at o6
        have hM := dm_MR_cp hf ht o4 o6 F.2.2.1 hw'
        obtain ⟨F', eT⟩ := dm_F_C (dm_F_hc (C' := C' - p) F hH' (by omega)) hM (by omega) l1 q1 q2
        refine nm_r (e' := nI (C' - p)) (pk_sub (by omega)) (nm_r (nI_add done p) (nm_r (nI_1 turn) ?_))
        refine ih (done + p) (turn + 1) f0 f1 f2 f3 f4 f5 _ wd' md _ wt _ _ _ _ _ _ _ le ss ds nx ct _ dc _ N H' (C' - p) B Q P F' (by omega) (by omega) (by omega) (fun postY h => hY postY (fun m hm => ?_))
        obtain ⟨m', rfl⟩ : ∃ m', m = m' + p := ⟨m - p, by omega⟩
        exact dm_yburst0 hN hH' (by omega) c2 hs (by omega) l1 hB hFY hS hrd.1 ok ef et r w gy (fun _ => h m' (by omega)) (fun q => absurd eT q)
theorem i_vc_run {k : Nat} {u : SX} {v : SY} (I : i_Rel k u v) (hk : k + 3 ≤ 1538) (v1 : Int32) : wpX_run (fun r u' => wpY_run (fun r' v' => r' = r ∧ i_Rel (k + 3) u' v') v v1) u v1 := by
  refine dm_el (Z := fun u v => wpX_run (fun r u' => wpY_run (fun r' v' => r' = r ∧ i_Rel (k + 3) u' v') v v1) u v1) ?_ I
  intro f0 f1 f2 f3 f4 f5 ev wd md st wt de mv ld rs rd rl co le ss ds nx ct me dc kk N H C B Q P F
  unfold wpX_run
  by_cases a1 : v1 < 1
  · unfold wpY_run
    exact br_t a1 (br_t a1 ⟨rfl, dm_mk F⟩)
  by_cases a2 : v1 ≤ 256
  rotate_left
  · unfold wpY_run
    exact br_f a1 (br_f a2 (br_f a1 (br_f a2 ⟨rfl, dm_mk F⟩)))
  have a0 : ¬ v1 < 0 := fun z => a1 (Int32.lt_trans z (by decide))
  obtain ⟨steps, hj, rfl⟩ := nI_of a0
  have j2 : steps ≤ 256 := (nI_leI (b := 256) hj (by decide)).mp a2
  refine br_f a1 (br_t a2 ⟨steps + 1, ?_⟩)
  refine dm_run (k := k + 3) (GY := fun postY => wpY_run postY (nI N, nI H, nI C, ev, me, md, st, wt, de, mv, ld, dc, kk) (nI steps)) j2 ?_ (steps + 1) 0 0 f0 f1 f2 f3 f4 f5 ev wd md st wt de mv ld rs rd rl co le ss ds nx ct me dc kk N H C B Q P F (by omega) (by omega) (by omega) ?_
  · intro r u' v' I' g
    exact g _ ⟨rfl, I'⟩
  · intro postY h
    unfold wpY_run
    exact br_f a1 (br_t a2 ⟨steps + 1, h (steps + 1) (by omega)⟩)
end
