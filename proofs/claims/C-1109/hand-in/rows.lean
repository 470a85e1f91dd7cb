section
/-! rows of kit/rows (starting texts, pasted): PURE-ROWS, BITS -/
theorem pk_us {f : Nat → Int32} {k : Nat} {x : Int32} : upd f k x k = x := if_pos rfl
theorem pk_un {f : Nat → Int32} {k j : Nat} {x : Int32} (h : j ≠ k) : upd f k x j = f j := if_neg h
theorem pk_sub {a b : Nat} (h : b ≤ a) : nI a - nI b = nI (a - b) := by
  obtain ⟨c, rfl⟩ : ∃ c, a = c + b := ⟨a - b, by omega⟩
  rw [← nI_add, Int32.add_sub_cancel, Nat.add_sub_cancel]
theorem pk_m1 (n : Nat) : nI (n + 1) + (-1) = nI n := by
  rw [← nI_1, Int32.add_assoc, show (1 : Int32) + (-1) = 0 from rfl, Int32.add_zero]
theorem pk_mul (a b : Nat) : nI a * nI b = nI (a * b) := (Int32.ofNat_mul a b).symm
theorem pk_div {a d : Nat} (ha : a < 2 ^ 31) (h0 : 0 < d) (hd : d < 2 ^ 31) : nI a / nI d = nI (a / d) := by
  apply Int32.toInt_inj.mp
  rw [lg_idiv_nonneg (by rw [nI_toInt ha]; omega) (by rw [nI_toInt hd]; omega), nI_toInt ha, nI_toInt hd, nI_toInt (Nat.lt_of_le_of_lt (Nat.div_le_self a d) ha)]
  first | rfl | exact (Int.natCast_ediv _ _).symm
theorem pk_rem {a d : Nat} (ha : a < 2 ^ 31) (h0 : 0 < d) (hd : d < 2 ^ 31) : nI a - nI a / nI d * nI d = nI (a % d) := by
  rw [pk_div ha h0 hd, pk_mul, pk_sub (Nat.div_mul_le_self a d)]
  exact congrArg nI (by have := Nat.div_add_mod' a d; omega)
theorem pk_sub_toInt {a b : Nat} (ha : a < 2 ^ 30) (hb : b < 2 ^ 30) : (nI a - nI b).toInt = (a : Int) - b := by
  rw [Int32.toInt_sub, nI_toInt (by omega), nI_toInt (by omega)]
  exact Int.bmod_eq_of_le (by omega) (by omega)
theorem pk_sneg {a b : Nat} (hb : b < 2 ^ 30) (h : a < b) : nI a - nI b < 0 := by
  rw [Int32.lt_iff_toInt_lt, pk_sub_toInt (by omega) hb, show (0 : Int32).toInt = 0 from by decide]
  omega
theorem pk_ix (x : Int32) {n : Nat} (hn : n < 2 ^ 31) : x < 0 ∨ nI n ≤ x ∨ ∃ j : Nat, j < n ∧ x = nI j := by
  by_cases h : x < 0
  · exact Or.inl h
  · obtain ⟨j, hj, rfl⟩ := nI_of h
    by_cases h2 : j < n
    · exact Or.inr (Or.inr ⟨j, h2, rfl⟩)
    · exact Or.inr (Or.inl (nI_le (by omega) hj))
theorem pk_le {x y : Int32} {A B : Prop} (a b : Nat) (f : a ≤ b → A) (g : b < a → B) (hx : x = nI a := by rfl) (hy : y = nI b := by rfl) (ha : a < 2 ^ 31 := by omega) (hb : b < 2 ^ 31 := by omega) : (x ≤ y → A) ∧ (¬ x ≤ y → B) := by
  subst hx hy
  rw [nI_leI ha hb]
  exact ⟨f, fun z => g (by omega)⟩
theorem pk_lt {x y : Int32} {A B : Prop} (a b : Nat) (f : a < b → A) (g : b ≤ a → B) (hx : x = nI a := by rfl) (hy : y = nI b := by rfl) (ha : a < 2 ^ 31 := by omega) (hb : b < 2 ^ 31 := by omega) : (x < y → A) ∧ (¬ x < y → B) := by
  subst hx hy
  rw [nI_ltI ha hb]
  exact ⟨f, fun z => g (by omega)⟩
theorem pk_eq {x y : Int32} {A B : Prop} (a b : Nat) (f : a = b → A) (g : a ≠ b → B) (hx : x = nI a := by rfl) (hy : y = nI b := by rfl) (ha : a < 2 ^ 31 := by omega) (hb : b < 2 ^ 31 := by omega) : (x = y → A) ∧ (¬ x = y → B) := by
  subst hx hy
  rw [nI_eq ha hb]
  exact ⟨f, g⟩
theorem pk_in {x : Int32} (n N : Nat) (h : n < N) (hx : x = nI n := by rfl) (hN : N < 2 ^ 31 := by omega) : vp_in x N := by
  subst hx
  exact vp_in_nI h hN
theorem pk_cl {x : Int32} (n : Nat) (hx : x = nI n := by rfl) (h : n < 2 ^ 31 := by omega) : x.toNatClampNeg = n := by
  subst hx
  exact nI_clamp h
theorem pk_tn {n : Nat} (h : n < 2 ^ 32) : (nI n).toBitVec.toNat = n := Nat.mod_eq_of_lt h
theorem pk_and (x : Int32) {m : Int32} (k : Nat) (hm : m.toBitVec.toNat = 2 ^ k - 1) : x &&& m = nI (x.toBitVec.toNat % 2 ^ k) := by
  apply Int32.toBitVec_inj.mp
  apply BitVec.eq_of_toNat_eq
  rw [Int32.toBitVec_and, BitVec.toNat_and, hm, Nat.and_two_pow_sub_one_eq_mod]
  show _ = (BitVec.ofNat 32 _).toNat
  rw [BitVec.toNat_ofNat]
  exact (Nat.mod_eq_of_lt (Nat.lt_of_le_of_lt (Nat.mod_le _ _) x.toBitVec.isLt)).symm
theorem pk_andN {n : Nat} (h : n < 2 ^ 32) {m : Int32} (k : Nat) (hm : m.toBitVec.toNat = 2 ^ k - 1) : nI n &&& m = nI (n % 2 ^ k) := by
  rw [pk_and _ k hm, pk_tn h]
theorem pk_andE (x : Int32) {m : Int32} (k : Nat) (hm : m.toBitVec.toNat = 2 ^ k - 1) : ∃ j : Nat, j < 2 ^ k ∧ x &&& m = nI j := ⟨_, Nat.mod_lt _ (Nat.two_pow_pos k), pk_and x k hm⟩
theorem pk_andIn (x : Int32) {m : Int32} (k : Nat) (hm : m.toBitVec.toNat = 2 ^ k - 1) (hk : k ≤ 30) : vp_in (x &&& m) (2 ^ k) := by
  obtain ⟨j, hj, e⟩ := pk_andE x k hm
  rw [e]
  exact vp_in_nI hj (Nat.lt_of_le_of_lt (Nat.pow_le_pow_right (by decide) hk) (by decide))
theorem pk_shl (a s : Int32) (k : Nat) (hs : (s.toBitVec.smod 32).toNat = k) : (a <<< s).toBitVec.toNat = a.toBitVec.toNat * 2 ^ k % 2 ^ 32 := by
  show (a.toBitVec <<< (s.toBitVec.smod 32).toNat).toNat = _
  rw [hs, BitVec.toNat_shiftLeft, Nat.shiftLeft_eq]
theorem pk_shlN {n : Nat} (s : Int32) (k : Nat) (hs : (s.toBitVec.smod 32).toNat = k) (h : n * 2 ^ k < 2 ^ 32) : nI n <<< s = nI (n * 2 ^ k) := by
  apply Int32.toBitVec_inj.mp
  apply BitVec.eq_of_toNat_eq
  have hn : n < 2 ^ 32 := Nat.lt_of_le_of_lt (Nat.le_mul_of_pos_right n (Nat.two_pow_pos k)) h
  rw [pk_shl _ _ k hs, pk_tn hn, pk_tn h, Nat.mod_eq_of_lt h]
theorem pk_shr (a s : Int32) (k : Nat) (hs : (s.toBitVec.smod 32).toNat = k) : (a >>> s).toInt = a.toInt >>> k := by
  show (a.toBitVec.sshiftRight (s.toBitVec.smod 32).toNat).toInt = _
  rw [hs, BitVec.toInt_sshiftRight]
  rfl
theorem pk_shrN {n : Nat} (h : n < 2 ^ 31) (s : Int32) (k : Nat) (hs : (s.toBitVec.smod 32).toNat = k) : nI n >>> s = nI (n / 2 ^ k) := by
  apply Int32.toInt_inj.mp
  have h2 : n / 2 ^ k ≤ n := Nat.div_le_self _ _
  rw [pk_shr _ _ k hs, nI_toInt h, nI_toInt (by omega), Int.shiftRight_eq_div_pow]
  rfl
theorem pk_nb (z : Int32) : narrow .byte (.int z.toInt8.toInt32) = .int z.toInt8.toInt32 := congrArg Value.int (by simp)
theorem pk_vb (z : Int32) : vp_nar .byte z.toInt8.toInt32 = z.toInt8.toInt32 := by rw [vp_nar_byte]; simp
theorem pk_least (P : Nat → Prop) (h : ∃ k, P k) : ∃ k, P k ∧ ∀ j, j < k → ¬ P j := by
  obtain ⟨k, hk⟩ := h
  induction k using Nat.strongRecOn with
  | ind k ih =>
    by_cases e : ∃ j, j < k ∧ P j
    · obtain ⟨j, hj, pj⟩ := e
      exact ih j hj pj
    · exact ⟨k, hk, fun j hj pj => e ⟨j, hj, pj⟩⟩
def bt (x : Int32) (i : Nat) : Bool := x.toBitVec.getLsbD i
theorem b_ext {x y : Int32} (h : ∀ i, i < 32 → bt x i = bt y i) : x = y := Int32.toBitVec_inj.mp (BitVec.eq_of_getLsbD_eq (fun i hi => h i hi))
theorem b_or (x y : Int32) (i : Nat) : bt (x ||| y) i = (bt x i || bt y i) := by unfold bt; rw [Int32.toBitVec_or, BitVec.getLsbD_or]
theorem b_and (x y : Int32) (i : Nat) : bt (x &&& y) i = (bt x i && bt y i) := by unfold bt; rw [Int32.toBitVec_and, BitVec.getLsbD_and]
theorem b_xor (x y : Int32) (i : Nat) : bt (x ^^^ y) i = (bt x i ^^ bt y i) := by unfold bt; rw [Int32.toBitVec_xor, BitVec.getLsbD_xor]
theorem b_big {x : Int32} {i : Nat} (h : 32 ≤ i) : bt x i = false := BitVec.getLsbD_of_ge _ _ h
theorem b_255 (i : Nat) : bt 255 i = decide (i < 8) := by
  rcases Nat.lt_or_ge i 32 with h | h
  · exact (by decide +kernel : ∀ i, i < 32 → bt 255 i = decide (i < 8)) i h
  · rw [b_big h, decide_eq_false (by omega)]
theorem b_65535 (i : Nat) : bt 65535 i = decide (i < 16) := by
  rcases Nat.lt_or_ge i 32 with h | h
  · exact (by decide +kernel : ∀ i, i < 32 → bt 65535 i = decide (i < 16)) i h
  · rw [b_big h, decide_eq_false (by omega)]
theorem b_m1 : ∀ i, i < 32 → bt (-1) i = true := by decide +kernel
theorem b_0 (i : Nat) : bt 0 i = false := BitVec.getLsbD_zero
theorem s_l : ∀ n, n < 32 → ((nI n &&& 31).toBitVec.smod 32).toNat = n := by decide +kernel
theorem s_u : ∀ n, n < 32 → (((nI n).toUInt32 &&& Int32.toUInt32 31).toBitVec % 32).toNat = n := by decide +kernel
theorem b_shl (n : Nat) (hn : n < 32) (x : Int32) {i : Nat} (hi : i < 32) : bt (x <<< (nI n &&& 31)) i = (decide (n ≤ i) && bt x (i - n)) := by
  unfold bt
  rw [Int32.toBitVec_shiftLeft]
  show (x.toBitVec <<< ((nI n &&& 31).toBitVec.smod 32).toNat).getLsbD i = _
  rw [s_l n hn, BitVec.getLsbD_shiftLeft]
  rcases Nat.lt_or_ge i n with h | h
  · simp [h, Nat.not_le.mpr h]
  · simp [hi, h, Nat.not_lt.mpr h]
theorem b_ushr (n : Nat) (hn : n < 32) (x : Int32) (i : Nat) : bt ((x.toUInt32 >>> ((nI n).toUInt32 &&& Int32.toUInt32 31)).toInt32) i = bt x (n + i) := by
  show (x.toUInt32 >>> ((nI n).toUInt32 &&& Int32.toUInt32 31)).toBitVec.getLsbD i = x.toUInt32.toBitVec.getLsbD (n + i)
  rw [UInt32.toBitVec_shiftRight]
  show (x.toUInt32.toBitVec >>> (((nI n).toUInt32 &&& Int32.toUInt32 31).toBitVec % 32).toNat).getLsbD i = _
  rw [s_u n hn, BitVec.getLsbD_ushiftRight]
theorem b_sshr (n : Nat) (hn : n < 32) (x : Int32) {i : Nat} (hi : i < 32) : bt (x >>> (nI n &&& 31)) i = if n + i < 32 then bt x (n + i) else bt x 31 := by
  unfold bt
  rw [Int32.toBitVec_shiftRight]
  show (x.toBitVec.sshiftRight ((nI n &&& 31).toBitVec.smod 32).toNat).getLsbD i = _
  rw [s_l n hn, BitVec.getLsbD_sshiftRight, BitVec.msb_eq_getLsbD_last]
  simp [hi]
end
section
/-! numbers -/
theorem tl_eq0 {a : Nat} (h : a < 2 ^ 31) : nI a = 0 ↔ a = 0 := by
  rw [← nI_0, nI_eq h (by omega)]
theorem tl_le0 {a : Nat} (h : a < 2 ^ 31) : nI a ≤ 0 ↔ a = 0 := by
  rw [← nI_0, nI_leI h (by omega)]; omega
theorem tl_m1lt : (-1 : Int32) < 0 := by decide
theorem tl_m1le : ¬ (0 : Int32) ≤ -1 := by decide
theorem tl_m1le' : (-1 : Int32) ≤ 0 := by decide
theorem tl_nem1 {a : Nat} (h : a < 2 ^ 31) : nI a ≠ -1 := by
  intro e
  have := nI_pos (n := a) h
  rw [e] at this
  exact this tl_m1lt
theorem tl_inj {a b : Nat} (h : nI a = nI b) (ha : a < 2 ^ 31) (hb : b < 2 ^ 31) : a = b := (nI_eq ha hb).mp h
theorem tl_16 (m i : Nat) : 16 * nI m + nI i = nI (16 * m + i) := by
  rw [show (16 : Int32) = nI 16 from rfl, pk_mul, nI_add]
theorem tl_16a (m : Nat) : 16 * nI m = nI (16 * m) := by
  rw [show (16 : Int32) = nI 16 from rfl, pk_mul]
theorem tl_3 (m i : Nat) : 3 * nI m + nI i = nI (3 * m + i) := by
  rw [show (3 : Int32) = nI 3 from rfl, pk_mul, nI_add]
theorem tl_3a (m : Nat) : 3 * nI m = nI (3 * m) := by
  rw [show (3 : Int32) = nI 3 from rfl, pk_mul]
theorem tl_6 (m i : Nat) : 6 * nI m + nI i = nI (6 * m + i) := by
  rw [show (6 : Int32) = nI 6 from rfl, pk_mul, nI_add]
theorem tl_6a (m : Nat) : 6 * nI m = nI (6 * m) := by
  rw [show (6 : Int32) = nI 6 from rfl, pk_mul]
theorem tl_pred {d : Nat} (h : 1 ≤ d) : nI d - 1 = nI (d - 1) := by
  rw [show (1 : Int32) = nI 1 from rfl, pk_sub h]
theorem tl_var {d : Nat} (v : Nat) (h : 1 ≤ d) : 6 * nI d - 6 + nI v = nI (6 * (d - 1) + v) := by
  rw [show (6 : Int32) = nI 6 from rfl, pk_mul, pk_sub (by omega), nI_add]
  exact congrArg nI (by omega)
theorem tl_b8 : ∀ n, n < 128 → (nI n).toInt8.toInt32 = nI n := by decide +kernel
theorem tl_nb {n : Nat} (h : n < 128) : vp_nar .byte (nI n).toInt8.toInt32 = nI n := by rw [pk_vb, tl_b8 n h]
theorem tl_nb1 {n : Nat} (h : n < 128) : vp_nar .byte (nI n) = nI n := by rw [vp_nar_byte, tl_b8 n h]
theorem tl_nbm : vp_nar .byte (-1 : Int32).toInt8.toInt32 = -1 := by rw [pk_vb]; decide
theorem tl_nbm1 : vp_nar .byte (-1 : Int32) = -1 := by rw [vp_nar_byte]; decide
theorem tl_nb0 : vp_nar .byte (0 : Int32) = 0 := by rw [vp_nar_byte]; decide
theorem tl_nz0 : vp_nar .boolean (0 : Int32) = 0 := by decide
theorem tl_nz1 : vp_nar .boolean (1 : Int32) = 1 := by decide
theorem tl_us {f : Nat → Int32} {k : Nat} {x : Int32} : upd f k x k = x := if_pos rfl
theorem tl_un {f : Nat → Int32} {k j : Nat} {x : Int32} (h : j ≠ k) : upd f k x j = f j := if_neg h
theorem tl_uid {f : Nat → Int32} {k : Nat} {x : Int32} (h : f k = x) : upd f k x = f := by
  funext j
  by_cases e : j = k
  · rw [e, tl_us, h]
  · rw [tl_un e]
theorem tl_n1 : (1 : Int32) ≠ 0 := by decide
theorem tl_n1' : ¬ (1 : Int32) = 0 := by decide
/-! masks -/
theorem mk_nI (x : Int32) : x = nI x.toBitVec.toNat := by
  apply Int32.toBitVec_inj.1
  show x.toBitVec = BitVec.ofNat 32 x.toBitVec.toNat
  simp
theorem bt_tb (x : Int32) (i : Nat) : bt x i = x.toBitVec.toNat.testBit i := rfl
def mkL (l : Nat) (x : Int32) : Prop := ∀ i, l ≤ i → bt x i = false
theorem mk_of {l : Nat} {x : Int32} (h : mkL l x) : ∃ n, n < 2 ^ l ∧ x = nI n :=
  ⟨x.toBitVec.toNat, Nat.lt_pow_two_of_testBit _ (fun i hi => h i hi), mk_nI x⟩
theorem mk_b8 {x : Int32} (h : mkL 6 x) : x.toInt8.toInt32 = x := by
  obtain ⟨n, hn, e⟩ := mk_of h
  rw [e, tl_b8 n (by omega)]
theorem mk_nb {x : Int32} (h : mkL 6 x) : vp_nar .byte x.toInt8.toInt32 = x := by rw [pk_vb, mk_b8 h]
theorem mk_mono {k l : Nat} {x : Int32} (h : mkL k x) (hl : k ≤ l) : mkL l x := fun i hi => h i (by omega)
theorem mk_0 (l : Nat) : mkL l 0 := fun i _ => b_0 i
theorem mk_pos {l : Nat} {x : Int32} (h : mkL l x) (hl : l ≤ 31) : ¬ x < 0 := by
  obtain ⟨n, hn, e⟩ := mk_of h
  rw [e]
  exact nI_pos (Nat.lt_of_lt_of_le hn (Nat.pow_le_pow_right (by decide) hl))
theorem mk_pos' {l : Nat} {x : Int32} (h : mkL l x) (hl : l ≤ 31) : 0 ≤ x := by
  obtain ⟨n, hn, e⟩ := mk_of h
  rw [e]
  exact nI_pos' (Nat.lt_of_lt_of_le hn (Nat.pow_le_pow_right (by decide) hl))
theorem bt_and1 (y : Int32) : y &&& 1 = nI (y.toBitVec.toNat % 2) := pk_and y 1 (by decide)
theorem bt_z (y : Int32) : bt y 0 = decide (y.toBitVec.toNat % 2 = 1) := by
  rw [bt_tb, Nat.testBit_zero]
theorem bt_has0 (x : Int32) {k : Nat} (hk : k < 32) : ((x >>> (nI k &&& 31)) &&& 1) = 0 ↔ bt x k = false := by
  have e : bt (x >>> (nI k &&& 31)) 0 = bt x k := by
    rw [b_sshr k hk x (by omega), if_pos (by omega), Nat.add_zero]
  rw [← e, bt_z, bt_and1, tl_eq0 (by omega), decide_eq_false_iff_not]
  omega
theorem bt_has1 (x : Int32) {k : Nat} (hk : k < 32) : ((x >>> (nI k &&& 31)) &&& 1) = 1 ↔ bt x k = true := by
  have e : bt (x >>> (nI k &&& 31)) 0 = bt x k := by
    rw [b_sshr k hk x (by omega), if_pos (by omega), Nat.add_zero]
  rw [← e, bt_z, bt_and1, show (1 : Int32) = nI 1 from rfl, nI_eq (by omega) (by omega), decide_eq_true_iff]
theorem bt_one {k : Nat} (hk : k < 32) (i : Nat) : bt ((1 : Int32) <<< (nI k &&& 31)) i = decide (i = k) := by
  rcases Nat.lt_or_ge i 32 with h | h
  · exact (by decide +kernel : ∀ k, k < 32 → ∀ i, i < 32 → bt ((1 : Int32) <<< (nI k &&& 31)) i = decide (i = k)) k hk i h
  · rw [b_big h, decide_eq_false (by omega)]
theorem bt_two {k : Nat} (hk : k < 31) (i : Nat) : bt ((2 : Int32) <<< (nI k &&& 31)) i = decide (i = k + 1) := by
  rcases Nat.lt_or_ge i 32 with h | h
  · exact (by decide +kernel : ∀ k, k < 31 → ∀ i, i < 32 → bt ((2 : Int32) <<< (nI k &&& 31)) i = decide (i = k + 1)) k hk i h
  · rw [b_big h, decide_eq_false (by omega)]
theorem bt_low {l : Nat} (hl : l ≤ 16) (i : Nat) : bt (((1 : Int32) <<< (nI l &&& 31)) - 1) i = decide (i < l) := by
  rcases Nat.lt_or_ge i 32 with h | h
  · exact (by decide +kernel : ∀ l, l < 17 → ∀ i, i < 32 → bt (((1 : Int32) <<< (nI l &&& 31)) - 1) i = decide (i < l)) l (by omega) i h
  · rw [b_big h, decide_eq_false (by omega)]
theorem bt_nd (x y : Int32) (i : Nat) : bt (x &&& (y ^^^ (-1))) i = (bt x i && !bt y i) := by
  rcases Nat.lt_or_ge i 32 with h | h
  · rw [b_and, b_xor, b_m1 i h, Bool.xor_true]
  · rw [b_big h, b_big h]; rfl
theorem bt_clr (x : Int32) {k : Nat} (hk : k < 32) (i : Nat) : bt (x &&& (((1 : Int32) <<< (nI k &&& 31)) ^^^ (-1))) i = (bt x i && !decide (i = k)) := by
  rw [bt_nd, bt_one hk]
theorem bt_set (x : Int32) {k : Nat} (hk : k < 32) (i : Nat) : bt (x ||| ((1 : Int32) <<< (nI k &&& 31))) i = (bt x i || decide (i = k)) := by
  rw [b_or, bt_one hk]
theorem bt_ex {x : Int32} (h : x ≠ 0) : ∃ i, i < 32 ∧ bt x i = true := by
  refine Classical.byContradiction (fun z => h (b_ext (fun i hi => ?_)))
  rw [b_0]
  cases e : bt x i
  · rfl
  · exact absurd ⟨i, hi, e⟩ z
theorem bt_nz {x : Int32} {i : Nat} (h : bt x i = true) : x ≠ 0 := by
  intro e
  rw [e, b_0] at h
  exact absurd h (by decide)
theorem bt_lt {l : Nat} {x : Int32} {i : Nat} (h : mkL l x) (hi : bt x i = true) : i < l := by
  refine Nat.lt_of_not_le (fun z => ?_)
  rw [h i z] at hi
  exact absurd hi (by decide)
theorem bt_32 {x : Int32} {i : Nat} (hi : bt x i = true) : i < 32 := by
  refine Nat.lt_of_not_le (fun z => ?_)
  rw [b_big z] at hi
  exact absurd hi (by decide)
theorem mk_ext {l : Nat} {x y : Int32} (hx : mkL l x) (hy : mkL l y) (h : ∀ i, i < l → bt x i = bt y i) : x = y := by
  refine b_ext (fun i _ => ?_)
  rcases Nat.lt_or_ge i l with z | z
  · exact h i z
  · rw [hx i z, hy i z]
theorem mk_or {l : Nat} {x y : Int32} (hx : mkL l x) (hy : mkL l y) : mkL l (x ||| y) := fun i hi => by rw [b_or, hx i hi, hy i hi]; rfl
theorem mk_and {l : Nat} {x y : Int32} (hx : mkL l x) : mkL l (x &&& y) := fun i hi => by rw [b_and, hx i hi]; rfl
theorem mk_and' {l : Nat} {x y : Int32} (hy : mkL l y) : mkL l (x &&& y) := fun i hi => by rw [b_and, hy i hi, Bool.and_false]
theorem mk_one {k l : Nat} (hk : k < l) (hl : l ≤ 32) : mkL l ((1 : Int32) <<< (nI k &&& 31)) := fun i hi => by
  rw [bt_one (by omega), decide_eq_false (by omega)]
/-- a mask that grows grows as a number -/
theorem mk_le {x y : Int32} (h : ∀ i, bt x i = true → bt y i = true) : x.toBitVec.toNat ≤ y.toBitVec.toNat := by
  have e : x ||| y = y := by
    refine b_ext (fun i _ => ?_)
    rw [b_or]
    cases hx : bt x i
    · rfl
    · rw [h i hx]; rfl
  have : x.toBitVec.toNat ≤ (x ||| y).toBitVec.toNat := by
    rw [Int32.toBitVec_or, BitVec.toNat_or]
    exact Nat.left_le_or
  rw [e] at this
  exact this
theorem mk_lt {x y : Int32} (h : ∀ i, bt x i = true → bt y i = true) (hn : y ≠ x) : x.toBitVec.toNat < y.toBitVec.toNat := by
  have h1 := mk_le h
  have h2 : x.toBitVec.toNat ≠ y.toBitVec.toNat := fun e => hn (Int32.toBitVec_inj.mp (BitVec.eq_of_toNat_eq e.symm))
  omega
theorem mk_64 {x : Int32} (h : mkL 6 x) : x.toBitVec.toNat < 64 := Nat.lt_pow_two_of_testBit (n := 6) _ (fun i hi => h i hi)
/-! sums -/
def sm (f : Nat → Nat) : Nat → Nat
  | 0 => 0
  | n + 1 => sm f n + f n
theorem sm_0 (f : Nat → Nat) : sm f 0 = 0 := rfl
theorem sm_s (f : Nat → Nat) (n : Nat) : sm f (n + 1) = sm f n + f n := rfl
theorem sm_cg {f g : Nat → Nat} : ∀ {n : Nat}, (∀ i, i < n → f i = g i) → sm f n = sm g n
  | 0, _ => rfl
  | n + 1, h => by rw [sm_s, sm_s, sm_cg (fun i hi => h i (by omega)), h n (by omega)]
theorem sm_le {f g : Nat → Nat} : ∀ {n : Nat}, (∀ i, i < n → f i ≤ g i) → sm f n ≤ sm g n
  | 0, _ => Nat.le_refl _
  | n + 1, h => by
    have h1 := sm_le (n := n) (fun i hi => h i (by omega))
    have h2 := h n (by omega)
    rw [sm_s, sm_s]
    omega
theorem sm_up {f g : Nat → Nat} {k : Nat} : ∀ {n : Nat}, k < n → (∀ i, i < n → i ≠ k → g i = f i) → sm g n + f k = sm f n + g k
  | 0, h, _ => by omega
  | n + 1, h, e => by
    rw [sm_s, sm_s]
    by_cases z : k = n
    · subst z
      rw [sm_cg (f := g) (g := f) (fun i hi => e i (by omega) (by omega))]
      omega
    · have h1 := sm_up (n := n) (show k < n by omega) (fun i hi hk => e i (by omega) hk)
      have h2 := e n (by omega) (fun w => z w.symm)
      omega
theorem sm_ge {f : Nat → Nat} {k : Nat} : ∀ {n : Nat}, k < n → f k ≤ sm f n
  | 0, h => by omega
  | n + 1, h => by
    rw [sm_s]
    by_cases z : k = n
    · subst z; omega
    · have h1 := sm_ge (f := f) (n := n) (show k < n by omega)
      omega
theorem sm_ex {f : Nat → Nat} : ∀ {n : Nat}, 0 < sm f n → ∃ k, k < n ∧ 0 < f k
  | 0, h => by rw [sm_0] at h; omega
  | n + 1, h => by
    rw [sm_s] at h
    by_cases z : 0 < f n
    · exact ⟨n, by omega, z⟩
    · obtain ⟨k, hk, hf⟩ := sm_ex (f := f) (n := n) (by omega)
      exact ⟨k, by omega, hf⟩
theorem sm_bd {f : Nat → Nat} {c : Nat} : ∀ {n : Nat}, (∀ i, i < n → f i ≤ c) → sm f n ≤ c * n
  | 0, _ => Nat.le_refl _
  | n + 1, h => by
    have h1 := sm_bd (n := n) (fun i hi => h i (by omega))
    have h2 := h n (by omega)
    rw [sm_s, Nat.mul_succ]
    omega
theorem sm_add {f g : Nat → Nat} : ∀ {n : Nat}, sm (fun i => f i + g i) n = sm f n + sm g n
  | 0 => rfl
  | n + 1 => by
    rw [sm_s, sm_s, sm_s, sm_add (n := n)]
    omega
theorem sm_zero {f : Nat → Nat} {n : Nat} (h : ∀ i, i < n → f i = 0) : sm f n = 0 := by
  have := sm_bd (f := f) (c := 0) (n := n) (fun i hi => Nat.le_of_eq (h i hi))
  omega
/-- an index where a sum below its bound has room -/
theorem sm_room {f : Nat → Nat} : ∀ {n : Nat}, sm f n < n → ∃ k, k < n ∧ f k = 0
  | 0, h => by omega
  | n + 1, h => by
    rw [sm_s] at h
    by_cases z : f n = 0
    · exact ⟨n, by omega, z⟩
    · obtain ⟨k, hk, hf⟩ := sm_room (f := f) (n := n) (by omega)
      exact ⟨k, by omega, hf⟩
end
section
/-! counts of references -/
def hp_dl (y : Int32) (n : Nat) : Nat := if y = nI n then 1 else 0
theorem hp_dl_le (y : Int32) (n : Nat) : hp_dl y n ≤ 1 := by
  unfold hp_dl
  split <;> omega
theorem hp_dl_s (n : Nat) : hp_dl (nI n) n = 1 := if_pos rfl
theorem hp_dl_n {m n : Nat} (h : m ≠ n) (hm : m < 2 ^ 31) (hn : n < 2 ^ 31) : hp_dl (nI m) n = 0 := if_neg (fun e => h (tl_inj e hm hn))
theorem hp_dl_0 {n : Nat} (h : 1 ≤ n) (hn : n < 2 ^ 31) : hp_dl 0 n = 0 := by
  rw [← nI_0]; exact hp_dl_n (by omega) (by omega) hn
def hp_fc (bf : Nat → Int32) (n o : Nat) : Nat := hp_dl (bf (3 * (o + 1))) n + hp_dl (bf (3 * (o + 1) + 1)) n
def hp_FC (bf : Nat → Int32) (M n : Nat) : Nat := sm (hp_fc bf n) M
def hp_vl (va lo : Nat → Int32) (n w : Nat) : Nat := if lo w = 0 then hp_dl (va w) n else 0
def hp_RC (gv : Int32) (va lo : Nat → Int32) (D n : Nat) : Nat := hp_dl gv n + sm (hp_vl va lo n) (6 * D)
theorem hp_FC_le (bf : Nat → Int32) (M n : Nat) : hp_FC bf M n ≤ 2 * M :=
  sm_bd (fun i _ => by
    have h1 := hp_dl_le (bf (3 * (i + 1))) n
    have h2 := hp_dl_le (bf (3 * (i + 1) + 1)) n
    unfold hp_fc
    omega)
theorem hp_vl_le (va lo : Nat → Int32) (n w : Nat) : hp_vl va lo n w ≤ 1 := by
  unfold hp_vl
  split
  · exact hp_dl_le _ _
  · omega
theorem hp_RC_le (gv : Int32) (va lo : Nat → Int32) (D n : Nat) : hp_RC gv va lo D n ≤ 1 + 6 * D := by
  have h1 := hp_dl_le gv n
  have h2 := sm_bd (f := hp_vl va lo n) (c := 1) (n := 6 * D) (fun i _ => hp_vl_le va lo n i)
  unfold hp_RC
  omega
theorem hp_FC_w {bf bf' : Nat → Int32} {M n : Nat} (h : ∀ o, 1 ≤ o → o ≤ M → bf' (3 * o) = bf (3 * o) ∧ bf' (3 * o + 1) = bf (3 * o + 1)) : hp_FC bf' M n = hp_FC bf M n :=
  sm_cg (fun i hi => by
    obtain ⟨e1, e2⟩ := h (i + 1) (by omega) (by omega)
    unfold hp_fc
    rw [e1, e2])
theorem hp_FC_u {bf : Nat → Int32} {M n o s : Nat} {y : Int32} (h1 : 1 ≤ o) (hM : o ≤ M) (hs : s < 2) : hp_FC (upd bf (3 * o + s) y) M n + hp_dl (bf (3 * o + s)) n = hp_FC bf M n + hp_dl y n := by
  obtain ⟨k, rfl⟩ : ∃ k, o = k + 1 := ⟨o - 1, by omega⟩
  have h := sm_up (f := hp_fc bf n) (g := hp_fc (upd bf (3 * (k + 1) + s) y) n) (k := k) (n := M) (by omega) (fun i hi hk => by
    unfold hp_fc
    rw [tl_un (show 3 * (i + 1) ≠ 3 * (k + 1) + s by omega), tl_un (show 3 * (i + 1) + 1 ≠ 3 * (k + 1) + s by omega)])
  have hc : s = 0 ∨ s = 1 := by omega
  unfold hp_FC
  rcases hc with rfl | rfl
  · have e1 : hp_fc (upd bf (3 * (k + 1) + 0) y) n k = hp_dl y n + hp_dl (bf (3 * (k + 1) + 1)) n := by
      unfold hp_fc
      rw [show 3 * (k + 1) = 3 * (k + 1) + 0 from rfl, tl_us, tl_un (show 3 * (k + 1) + 0 + 1 ≠ 3 * (k + 1) + 0 by omega)]
    have e2 : hp_fc bf n k = hp_dl (bf (3 * (k + 1) + 0)) n + hp_dl (bf (3 * (k + 1) + 1)) n := rfl
    rw [e1, e2] at h
    omega
  · have e1 : hp_fc (upd bf (3 * (k + 1) + 1) y) n k = hp_dl (bf (3 * (k + 1))) n + hp_dl y n := by
      unfold hp_fc
      rw [tl_us, tl_un (show 3 * (k + 1) ≠ 3 * (k + 1) + 1 by omega)]
    have e2 : hp_fc bf n k = hp_dl (bf (3 * (k + 1))) n + hp_dl (bf (3 * (k + 1) + 1)) n := rfl
    rw [e1, e2] at h
    omega
theorem hp_FC_ge {bf : Nat → Int32} {M n o s : Nat} (h1 : 1 ≤ o) (hM : o ≤ M) (hs : s < 2) (e : bf (3 * o + s) = nI n) : 1 ≤ hp_FC bf M n := by
  have h := hp_FC_u (bf := bf) (n := n) (y := bf (3 * o + s)) h1 hM hs
  have h2 := hp_FC_u (bf := bf) (n := n) (y := nI (n + 1)) h1 hM hs
  have h3 := hp_dl_s n
  rw [e] at h2
  by_cases z : nI (n + 1) = nI n
  · exfalso
    rw [← nI_1] at z
    have z2 : nI n + 1 - nI n = nI n - nI n := by rw [z]
    rw [Int32.sub_self, Int32.add_comm, Int32.add_sub_cancel] at z2
    exact absurd z2 (by decide)
  · have h4 : hp_dl (nI (n + 1)) n = 0 := if_neg z
    omega
theorem hp_RC_ge {gv : Int32} {va lo : Nat → Int32} {D n w : Nat} (hw : w < 6 * D) (hl : lo w = 0) (e : va w = nI n) : 1 ≤ hp_RC gv va lo D n := by
  have h := sm_ge (f := hp_vl va lo n) hw
  have h2 : hp_vl va lo n w = 1 := by
    unfold hp_vl
    rw [if_pos hl, e, hp_dl_s]
  unfold hp_RC
  omega
theorem hp_RC_u {gv : Int32} {va lo : Nat → Int32} {D n w : Nat} {y l : Int32} (hw : w < 6 * D) : hp_RC gv (upd va w y) (upd lo w l) D n + (if lo w = 0 then hp_dl (va w) n else 0) = hp_RC gv va lo D n + (if l = 0 then hp_dl y n else 0) := by
  have h := sm_up (f := hp_vl va lo n) (g := hp_vl (upd va w y) (upd lo w l) n) hw (fun i hi hk => by
    unfold hp_vl
    rw [tl_un hk, tl_un hk])
  have e1 : hp_vl (upd va w y) (upd lo w l) n w = if l = 0 then hp_dl y n else 0 := by
    unfold hp_vl
    rw [tl_us, tl_us]
  have e2 : hp_vl va lo n w = if lo w = 0 then hp_dl (va w) n else 0 := rfl
  rw [e1, e2] at h
  unfold hp_RC
  omega
theorem hp_RC_u1 {gv : Int32} {va lo : Nat → Int32} {D n w : Nat} {y : Int32} (hw : w < 6 * D) : hp_RC gv (upd va w y) lo D n + (if lo w = 0 then hp_dl (va w) n else 0) = hp_RC gv va lo D n + (if lo w = 0 then hp_dl y n else 0) := by
  have h := hp_RC_u (gv := gv) (va := va) (lo := lo) (n := n) (y := y) (l := lo w) hw
  rw [tl_uid (f := lo) rfl] at h
  exact h
/-! the heap relation -/
def hp_RW (M : Nat) (nu al : Nat → Int32) (x y : Int32) : Prop :=
  (x = -1 ∧ y = 0) ∨ ∃ q t : Nat, q < 24 ∧ 1 ≤ t ∧ t ≤ M ∧ x = nI q ∧ y = nI t ∧ (al t ≠ 0 → nu q = nI t)
def hp_lv (nu al : Nat → Int32) (p : Nat) : Nat := if nu p ≠ 0 ∧ al (nu p).toNatClampNeg ≠ 0 then 1 else 0
def hp_ed (nu al : Nat → Int32) (p : Nat) : Nat := if nu p ≠ 0 ∧ al (nu p).toNatClampNeg = 0 then 1 else 0
def hp_St (M tp : Nat) (nu fi en st bf al td ph : Nat → Int32) (k p n s : Nat) : Prop :=
  p < 24 ∧ 1 ≤ n ∧ n ≤ M ∧ s ≤ 2 ∧ en k = nI p ∧ td k = nI n ∧ st k = nI s ∧ ph k = nI s ∧ nu p = nI n ∧ al n = 0 ∧ (∀ j, j < tp → j ≠ k → en j ≠ nI p) ∧ ∀ f, s ≤ f → f < 2 → hp_RW M nu al (fi (3 * p + f)) (bf (3 * n + f))
def HR (M E L tp : Nat) (rc : Nat → Nat) (nu it co fi en st va bf al td ph : Nat → Int32) : Prop :=
  M ≤ 300 ∧
  (∀ p, p < 24 → ∃ n, n ≤ M ∧ nu p = nI n) ∧
  (∀ p q n, p < 24 → q < 24 → 1 ≤ n → n ≤ M → nu p = nI n → nu q = nI n → p = q) ∧
  (∀ n, 1 ≤ n → n ≤ M → al n ≠ 0 → ∃ p, p < 24 ∧ nu p = nI n) ∧
  (∀ p n, p < 24 → 1 ≤ n → n ≤ M → nu p = nI n → co p = nI (rc n + hp_FC bf M n)) ∧
  (∀ n, 1 ≤ n → n ≤ 301 → 0 < rc n + hp_FC bf M n → n ≤ M ∧ al n ≠ 0) ∧
  (∀ n, 1 ≤ n → n ≤ M → al n ≠ 0 → 0 < rc n + hp_FC bf M n) ∧
  (∀ p n, p < 24 → 1 ≤ n → n ≤ M → nu p = nI n → al n ≠ 0 → it p = va n ∧ ∀ f, f < 3 → hp_RW M nu al (fi (3 * p + f)) (bf (3 * n + f))) ∧
  (∀ n t, 1 ≤ n → n ≤ M → al n ≠ 0 → 1 ≤ t → t ≤ M → bf (3 * n + 2) = nI t → al t ≠ 0) ∧
  (∀ k, k < tp → ∃ p n s, hp_St M tp nu fi en st bf al td ph k p n s) ∧
  sm (hp_lv nu al) 24 = L ∧
  sm (hp_ed nu al) 24 = tp ∧
  E + L = M
def hp_HM (M : Nat) (nu bf al nu' bf' al' : Nat → Int32) : Prop :=
  (∀ n, 1 ≤ n → n ≤ M → al' n ≠ 0 → al n ≠ 0 ∧ bf' (3 * n) = bf (3 * n) ∧ bf' (3 * n + 1) = bf (3 * n + 1)) ∧
  (∀ q n, q < 24 → 1 ≤ n → n ≤ M → al' n ≠ 0 → nu q = nI n → nu' q = nI n)
section
variable {M E L tp : Nat} {rc rc' : Nat → Nat} {nu it co fi en st va bf al td ph nu' bf' al' nu2 bf2 al2 fi' : Nat → Int32}
theorem hp_HM_r : hp_HM M nu bf al nu bf al := ⟨fun _ _ _ h => ⟨h, rfl, rfl⟩, fun _ _ _ _ _ _ h => h⟩
theorem hp_HM_t (h : hp_HM M nu bf al nu' bf' al') (g : hp_HM M nu' bf' al' nu2 bf2 al2) : hp_HM M nu bf al nu2 bf2 al2 :=
  ⟨fun n a b c => by
    obtain ⟨g1, g2, g3⟩ := g.1 n a b c
    obtain ⟨h1, h2, h3⟩ := h.1 n a b g1
    exact ⟨h1, g2.trans h2, g3.trans h3⟩, fun q n a b c d e => g.2 q n a b c d (h.2 q n a b c (g.1 n b c d).1 e)⟩
theorem hp_HM_f {n f : Nat} (h : hp_HM M nu bf al nu' bf' al') (h1 : 1 ≤ n) (hM : n ≤ M) (ha : al' n ≠ 0) (hf : f < 2) : bf' (3 * n + f) = bf (3 * n + f) := by
  have hc : f = 0 ∨ f = 1 := by omega
  rcases hc with rfl | rfl
  · exact (h.1 n h1 hM ha).2.1
  · exact (h.1 n h1 hM ha).2.2
theorem hp_RW_m {x y : Int32} (h : hp_HM M nu bf al nu' bf' al') (w : hp_RW M nu al x y) : hp_RW M nu' al' x y := by
  rcases w with w | ⟨q, t, hq, h1, hM, ex, ey, hn⟩
  · exact Or.inl w
  · exact Or.inr ⟨q, t, hq, h1, hM, ex, ey, fun ha => h.2 q t hq h1 hM ha (hn (h.1 t h1 hM ha).1)⟩
theorem hp_cg (h : ∀ n, 1 ≤ n → n ≤ 301 → rc' n = rc n) (H : HR M E L tp rc nu it co fi en st va bf al td ph) : HR M E L tp rc' nu it co fi en st va bf al td ph := by
  obtain ⟨c1, c2, c3, c4, c5, c6, c7, c8, c9, c10, c11, c12, c13⟩ := H
  refine ⟨c1, c2, c3, c4, ?_, ?_, ?_, c8, c9, c10, c11, c12, c13⟩
  · intro p n hp h1 h2 e
    rw [h n h1 (by omega)]
    exact c5 p n hp h1 h2 e
  · intro n h1 h2 e
    rw [h n h1 h2] at e
    exact c6 n h1 h2 e
  · intro n h1 h2 e
    rw [h n h1 (by omega)]
    exact c7 n h1 h2 e
theorem hp_sub1 {k : Nat} : nI (k + 1) - 1 = nI k := nI_pred k
theorem hp_dec {o n0 : Nat} (ho : o < 24) (h1 : 1 ≤ n0) (hM : n0 ≤ M) (hn : nu o = nI n0) (h0 : 0 < rc n0 + hp_FC bf M n0)
    (H : HR M E L tp (fun n => rc n + hp_dl (nI n0) n) nu it co fi en st va bf al td ph) : HR M E L tp rc nu it (upd co o (co o - 1)) fi en st va bf al td ph := by
  obtain ⟨c1, c2, c3, c4, c5, c6, c7, c8, c9, c10, c11, c12, c13⟩ := H
  refine ⟨c1, c2, c3, c4, ?_, ?_, ?_, c8, c9, c10, c11, c12, c13⟩
  · intro p n hp h1' h2' e
    have k5 : co p = nI (rc n + hp_dl (nI n0) n + hp_FC bf M n) := c5 p n hp h1' h2' e
    by_cases z : p = o
    · subst z
      have en : n = n0 := tl_inj (e.symm.trans hn) (by omega) (by omega)
      subst en
      rw [tl_us, k5, hp_dl_s, show rc n + 1 + hp_FC bf M n = rc n + hp_FC bf M n + 1 by omega]
      exact nI_pred _
    · have en : n0 ≠ n := fun w => z (c3 p o n hp ho h1' h2' e (by rw [hn, w]))
      rw [tl_un z, k5, hp_dl_n en (by omega) (by omega), Nat.add_zero]
  · intro n a b c
    exact c6 n a b (show 0 < rc n + hp_dl (nI n0) n + hp_FC bf M n by omega)
  · intro n a b c
    have k7 : 0 < rc n + hp_dl (nI n0) n + hp_FC bf M n := c7 n a b c
    by_cases z : n0 = n
    · rw [← z]; exact h0
    · rw [hp_dl_n z (by omega) (by omega)] at k7
      exact k7
theorem hp_lv1 {p n : Nat} (e : nu p = nI n) (h1 : 1 ≤ n) (hn : n < 2 ^ 31) (ha : al n ≠ 0) : hp_lv nu al p = 1 := by
  unfold hp_lv
  rw [if_pos]
  rw [e, nI_clamp hn]
  exact ⟨nI_ne0 h1 hn, ha⟩
theorem hp_lv0 {p n : Nat} (e : nu p = nI n) (hn : n < 2 ^ 31) (ha : al n = 0) : hp_lv nu al p = 0 := by
  unfold hp_lv
  rw [if_neg]
  rw [e, nI_clamp hn]
  exact fun z => z.2 ha
theorem hp_lvz {p : Nat} (e : nu p = 0) : hp_lv nu al p = 0 := by
  unfold hp_lv
  rw [if_neg]
  exact fun z => z.1 e
theorem hp_ed1 {p n : Nat} (e : nu p = nI n) (h1 : 1 ≤ n) (hn : n < 2 ^ 31) (ha : al n = 0) : hp_ed nu al p = 1 := by
  unfold hp_ed
  rw [if_pos]
  rw [e, nI_clamp hn]
  exact ⟨nI_ne0 h1 hn, ha⟩
theorem hp_ed0 {p n : Nat} (e : nu p = nI n) (hn : n < 2 ^ 31) (ha : al n ≠ 0) : hp_ed nu al p = 0 := by
  unfold hp_ed
  rw [if_neg]
  rw [e, nI_clamp hn]
  exact fun z => ha z.2
theorem hp_edz {p : Nat} (e : nu p = 0) : hp_ed nu al p = 0 := by
  unfold hp_ed
  rw [if_neg]
  exact fun z => z.1 e
theorem hp_le24 (nu al : Nat → Int32) : sm (hp_lv nu al) 24 + sm (hp_ed nu al) 24 ≤ 24 := by
  rw [← sm_add]
  refine sm_bd (c := 1) (fun i _ => ?_)
  show hp_lv nu al i + hp_ed nu al i ≤ 1
  unfold hp_lv hp_ed
  by_cases z : nu i ≠ 0 ∧ al (nu i).toNatClampNeg ≠ 0
  · rw [if_pos z, if_neg (fun w => z.2 w.2)]
    omega
  · rw [if_neg z]
    split <;> omega
theorem hp_RW_d {x y : Int32} {n0 : Nat} (w : hp_RW M nu al x y) : hp_RW M nu (upd al n0 0) x y := by
  rcases w with w | ⟨q, t, hq, h1, hM, ex, ey, hn⟩
  · exact Or.inl w
  · refine Or.inr ⟨q, t, hq, h1, hM, ex, ey, fun ha => hn ?_⟩
    by_cases z : t = n0
    · rw [z, tl_us] at ha; exact absurd rfl ha
    · rw [tl_un z] at ha; exact ha
theorem hp_end {o n0 : Nat} (ho : o < 24) (h1 : 1 ≤ n0) (hM : n0 ≤ M) (hn : nu o = nI n0) (ha : al n0 ≠ 0) (h0 : rc n0 + hp_FC bf M n0 = 0)
    (hf : ∀ p f, p < 24 → f < 3 → fi' (3 * p + f) = if f = 2 ∧ nu p ≠ 0 ∧ fi (3 * p + f) = nI o then -1 else fi (3 * p + f))
    (hb : ∀ n f, 1 ≤ n → n ≤ M → f < 3 → bf' (3 * n + f) = if f = 2 ∧ bf (3 * n + f) = nI n0 then 0 else bf (3 * n + f))
    (H : HR M E L tp (fun n => rc n + hp_dl (nI n0) n) nu it co fi en st va bf al td ph) :
    ∃ L', L = L' + 1 ∧ tp + L ≤ 24 ∧ HR M (E + 1) L' (tp + 1) rc nu it (upd co o (co o - 1)) fi' (upd en tp (nI o)) (upd st tp 0) va bf' (upd al n0 0) (upd td tp (nI n0)) (upd ph tp 0) ∧ hp_HM M nu bf al nu bf' (upd al n0 0) := by
  obtain ⟨c1, c2, c3, c4, c5, c6, c7, c8, c9, c10, c11, c12, c13⟩ := H
  have hbs : ∀ n f, 1 ≤ n → n ≤ M → f < 2 → bf' (3 * n + f) = bf (3 * n + f) := fun n f a b c => by
    rw [hb n f a b (by omega), if_neg (fun z => by omega)]
  have hfs : ∀ p f, p < 24 → f < 2 → fi' (3 * p + f) = fi (3 * p + f) := fun p f a c => by
    rw [hf p f a (by omega), if_neg (fun z => by omega)]
  have hFC : ∀ n, hp_FC bf' M n = hp_FC bf M n := fun n => hp_FC_w (fun o a b => ⟨hbs o 0 a b (by omega), hbs o 1 a b (by omega)⟩)
  have hal : ∀ n, (upd al n0 0) n ≠ 0 → n ≠ n0 ∧ al n ≠ 0 := fun n z => by
    by_cases w : n = n0
    · rw [w, tl_us] at z; exact absurd rfl z
    · rw [tl_un w] at z; exact ⟨w, z⟩
  have hlv := sm_up (f := hp_lv nu al) (g := hp_lv nu (upd al n0 0)) ho (fun p hp hk => by
    obtain ⟨n, hnM, e⟩ := c2 p hp
    by_cases z : n = 0
    · rw [z, nI_0] at e
      rw [hp_lvz e, hp_lvz e]
    · have nn : n ≠ n0 := fun w => hk (c3 p o n hp ho (by omega) hnM e (by rw [hn, w]))
      by_cases y : al n = 0
      · rw [hp_lv0 e (by omega) y, hp_lv0 e (by omega) (by rw [tl_un nn]; exact y)]
      · rw [hp_lv1 e (by omega) (by omega) y, hp_lv1 e (by omega) (by omega) (by rw [tl_un nn]; exact y)])
  have hed := sm_up (f := hp_ed nu al) (g := hp_ed nu (upd al n0 0)) ho (fun p hp hk => by
    obtain ⟨n, hnM, e⟩ := c2 p hp
    by_cases z : n = 0
    · rw [z, nI_0] at e
      rw [hp_edz e, hp_edz e]
    · have nn : n ≠ n0 := fun w => hk (c3 p o n hp ho (by omega) hnM e (by rw [hn, w]))
      by_cases y : al n = 0
      · rw [hp_ed1 e (by omega) (by omega) y, hp_ed1 e (by omega) (by omega) (by rw [tl_un nn]; exact y)]
      · rw [hp_ed0 e (by omega) y, hp_ed0 e (by omega) (by rw [tl_un nn]; exact y)])
  rw [hp_lv1 hn h1 (by omega) ha, hp_lv0 hn (by omega) tl_us, c11] at hlv
  rw [hp_ed0 hn (by omega) ha, hp_ed1 hn h1 (by omega) tl_us, c12] at hed
  have h24 := hp_le24 nu al
  rw [c11, c12] at h24
  refine ⟨sm (hp_lv nu (upd al n0 0)) 24, by omega, by omega, ⟨c1, c2, c3, ?_, ?_, ?_, ?_, ?_, ?_, ?_, rfl, by omega, by omega⟩, ?_, fun _ _ _ _ _ _ h => h⟩
  · intro n a b c
    exact c4 n a b (hal n c).2
  · intro p n hp h1' h2' e
    have k5 : co p = nI (rc n + hp_dl (nI n0) n + hp_FC bf M n) := c5 p n hp h1' h2' e
    rw [hFC]
    by_cases z : p = o
    · subst z
      have en : n = n0 := tl_inj (e.symm.trans hn) (by omega) (by omega)
      subst en
      rw [tl_us, k5, hp_dl_s, show rc n + 1 + hp_FC bf M n = rc n + hp_FC bf M n + 1 by omega]
      exact nI_pred _
    · have en : n0 ≠ n := fun w => z (c3 p o n hp ho h1' h2' e (by rw [hn, w]))
      rw [tl_un z, k5, hp_dl_n en (by omega) (by omega), Nat.add_zero]
  · intro n a b c
    rw [hFC] at c
    obtain ⟨k1, k2⟩ := c6 n a b (show 0 < rc n + hp_dl (nI n0) n + hp_FC bf M n by omega)
    refine ⟨k1, ?_⟩
    rw [tl_un (show n ≠ n0 from fun w => by rw [w] at c; omega)]
    exact k2
  · intro n a b c
    obtain ⟨d1, d2⟩ := hal n c
    have k7 : 0 < rc n + hp_dl (nI n0) n + hp_FC bf M n := c7 n a b d2
    rw [hp_dl_n (fun w => d1 w.symm) (by omega) (by omega)] at k7
    rw [hFC]
    exact k7
  · intro p n hp a b e c
    obtain ⟨d1, d2⟩ := hal n c
    obtain ⟨k1, k2⟩ := c8 p n hp a b e d2
    refine ⟨k1, fun f hf3 => ?_⟩
    by_cases zf : f < 2
    · rw [hfs p f hp zf, hbs n f a b zf]
      exact hp_RW_d (k2 f hf3)
    · have zf2 : f = 2 := by omega
      subst zf2
      have hnu : nu p ≠ 0 := by rw [e]; exact nI_ne0 a (by omega)
      rw [hf p 2 hp hf3, hb n 2 a b hf3]
      rcases k2 2 hf3 with ⟨wx, wy⟩ | ⟨q, t, hq, ht1, htM, ex, ey, hw⟩
      · rw [if_neg, if_neg]
        · exact Or.inl ⟨wx, wy⟩
        · rw [wy]; exact fun z => nI_ne0 h1 (by omega) z.2.symm
        · rw [wx]; exact fun z => tl_nem1 (by omega) z.2.2.symm
      · have hta := c9 n t a b d2 ht1 htM ey
        have hq2 := hw hta
        by_cases zt : t = n0
        · have hqo : q = o := c3 q o n0 hq ho h1 hM (by rw [hq2, zt]) hn
          rw [if_pos ⟨rfl, hnu, by rw [ex, hqo]⟩, if_pos ⟨rfl, by rw [ey, zt]⟩]
          exact Or.inl ⟨rfl, rfl⟩
        · rw [if_neg, if_neg]
          · exact hp_RW_d (Or.inr ⟨q, t, hq, ht1, htM, ex, ey, hw⟩)
          · rw [ey]; exact fun z => zt (tl_inj z.2 (by omega) (by omega))
          · rw [ex]
            intro z
            have hqo : q = o := tl_inj z.2.2 (by omega) (by omega)
            rw [hqo, hn] at hq2
            exact zt (tl_inj hq2 (by omega) (by omega)).symm
  · intro n t a b c ht1 htM e
    obtain ⟨d1, d2⟩ := hal n c
    rw [hb n 2 a b (by omega)] at e
    by_cases z : (2 : Nat) = 2 ∧ bf (3 * n + 2) = nI n0
    · rw [if_pos z] at e
      exact absurd e.symm (nI_ne0 ht1 (by omega))
    · rw [if_neg z] at e
      have zt : t ≠ n0 := fun w => z ⟨rfl, by rw [e, w]⟩
      rw [tl_un zt]
      exact c9 n t a b d2 ht1 htM e
  · intro k hk
    by_cases zk : k = tp
    · subst zk
      refine ⟨o, n0, 0, ho, h1, hM, by omega, tl_us, tl_us, tl_us, tl_us, hn, tl_us, ?_, ?_⟩
      · intro j hj hjk
        rw [tl_un hjk]
        intro z
        obtain ⟨p', n', s', hp', hn1', hnM', hs', e1, e2, e3, e4, e5, e6, e7, e8⟩ := c10 j (by omega)
        have : p' = o := tl_inj (e1.symm.trans z) (by omega) (by omega)
        rw [this, hn] at e5
        have := tl_inj e5 (by omega) (by omega)
        rw [← this] at e6
        exact ha e6
      · intro f _ hf2
        rw [hfs o f ho hf2, hbs n0 f h1 hM hf2]
        exact hp_RW_d ((c8 o n0 ho h1 hM hn ha).2 f (by omega))
    · obtain ⟨p', n', s', hp', hn1', hnM', hs', e1, e2, e3, e4, e5, e6, e7, e8⟩ := c10 k (by omega)
      have nn : n' ≠ n0 := fun w => by rw [w] at e6; exact ha e6
      refine ⟨p', n', s', hp', hn1', hnM', hs', ?_, ?_, ?_, ?_, e5, ?_, ?_, ?_⟩
      · rw [tl_un zk]; exact e1
      · rw [tl_un zk]; exact e2
      · rw [tl_un zk]; exact e3
      · rw [tl_un zk]; exact e4
      · rw [tl_un nn]; exact e6
      · intro j hj hjk
        by_cases zj : j = tp
        · rw [zj, tl_us]
          intro z
          have : o = p' := tl_inj z (by omega) (by omega)
          rw [← this, hn] at e5
          exact nn (tl_inj e5 (by omega) (by omega)).symm
        · rw [tl_un zj]
          exact e7 j (by omega) hjk
      · intro f hsf hf2
        rw [hfs p' f hp' hf2, hbs n' f hn1' hnM' hf2]
        exact hp_RW_d (e8 f hsf hf2)
  · intro n a b c
    obtain ⟨d1, d2⟩ := hal n c
    exact ⟨d2, hbs n 0 a b (by omega), hbs n 1 a b (by omega)⟩
end
end
section
section
variable {M E L tp : Nat} {rc rc' : Nat → Nat} {nu it co fi en st va bf al td ph st' ph' fi' bf' : Nat → Int32}
/-- the end that was begun last is over -/
theorem hp_pop {p n s : Nat} (hS : hp_St M (tp + 1) nu fi en st bf al td ph tp p n s) (hst : ∀ k, k < tp → st' k = st k ∧ ph' k = ph k)
    (H : HR M E L (tp + 1) rc nu it co fi en st va bf al td ph) :
    HR M E L tp rc (upd nu p 0) it co fi en st' va bf al td ph' ∧ hp_HM M nu bf al (upd nu p 0) bf al := by
  obtain ⟨c1, c2, c3, c4, c5, c6, c7, c8, c9, c10, c11, c12, c13⟩ := H
  obtain ⟨hp, hn1, hnM, hs, e1, e2, e3, e4, e5, e6, e7, e8⟩ := hS
  have hne : ∀ q m, q < 24 → 1 ≤ m → m ≤ M → nu q = nI m → al m ≠ 0 → q ≠ p := fun q m _ hm1 hmM e a w => by
    rw [w, e5] at e
    have := tl_inj e (by omega) (by omega)
    rw [← this] at a
    exact a e6
  have hnu : ∀ q m, 1 ≤ m → m ≤ M → (upd nu p 0) q = nI m → q ≠ p ∧ nu q = nI m := fun q m hm1 hmM e => by
    by_cases w : q = p
    · rw [w, tl_us] at e
      exact absurd e.symm (nI_ne0 hm1 (by omega))
    · rw [tl_un w] at e; exact ⟨w, e⟩
  have hM : hp_HM M nu bf al (upd nu p 0) bf al := ⟨fun _ _ _ h => ⟨h, rfl, rfl⟩, fun q m hq a b c d => by
    rw [tl_un (hne q m hq a b d c)]; exact d⟩
  have hlv := sm_up (f := hp_lv nu al) (g := hp_lv (upd nu p 0) al) hp (fun q hq hk => by
    unfold hp_lv
    rw [tl_un hk])
  have hed := sm_up (f := hp_ed nu al) (g := hp_ed (upd nu p 0) al) hp (fun q hq hk => by
    unfold hp_ed
    rw [tl_un hk])
  rw [hp_lv0 e5 (by omega) e6, hp_lvz tl_us, c11] at hlv
  rw [hp_ed1 e5 hn1 (by omega) e6, hp_edz tl_us, c12] at hed
  refine ⟨⟨c1, ?_, ?_, ?_, ?_, c6, c7, ?_, c9, ?_, by omega, by omega, c13⟩, hM⟩
  · intro q hq
    by_cases w : q = p
    · exact ⟨0, by omega, by rw [w, tl_us, nI_0]⟩
    · rw [tl_un w]; exact c2 q hq
  · intro q q' m hq hq' a b e e'
    exact c3 q q' m hq hq' a b (hnu q m a b e).2 (hnu q' m a b e').2
  · intro m a b c
    obtain ⟨q, hq, e⟩ := c4 m a b c
    exact ⟨q, hq, by rw [tl_un (hne q m hq a b e c)]; exact e⟩
  · intro q m hq a b e
    exact c5 q m hq a b (hnu q m a b e).2
  · intro q m hq a b e c
    obtain ⟨k1, k2⟩ := c8 q m hq a b (hnu q m a b e).2 c
    exact ⟨k1, fun f hf => hp_RW_m hM (k2 f hf)⟩
  · intro k hk
    obtain ⟨p', n', s', hp', hn1', hnM', hs', d1, d2, d3, d4, d5, d6, d7, d8⟩ := c10 k (by omega)
    have hpp : p' ≠ p := fun w => d7 tp (by omega) (by omega) (by rw [w]; exact e1)
    refine ⟨p', n', s', hp', hn1', hnM', hs', d1, d2, ?_, ?_, ?_, d6, fun j hj hjk => d7 j (by omega) hjk, fun f hsf hf2 => hp_RW_m hM (d8 f hsf hf2)⟩
    · rw [(hst k hk).1]; exact d3
    · rw [(hst k hk).2]; exact d4
    · rw [tl_un hpp]; exact d5
/-- a field of the one that ends is let go: nothing there -/
theorem hp_fld0 {p n s : Nat} (hs2 : s < 2) (hS : hp_St M (tp + 1) nu fi en st bf al td ph tp p n s)
    (H : HR M E L (tp + 1) rc nu it co fi en st va bf al td ph) :
    HR M E L (tp + 1) rc nu it co fi en (upd st tp (nI (s + 1))) va bf al td (upd ph tp (nI (s + 1))) := by
  obtain ⟨c1, c2, c3, c4, c5, c6, c7, c8, c9, c10, c11, c12, c13⟩ := H
  obtain ⟨hp, hn1, hnM, hs, e1, e2, e3, e4, e5, e6, e7, e8⟩ := hS
  refine ⟨c1, c2, c3, c4, c5, c6, c7, c8, c9, ?_, c11, c12, c13⟩
  intro k hk
  by_cases zk : k = tp
  · subst zk
    exact ⟨p, n, s + 1, hp, hn1, hnM, by omega, e1, e2, tl_us, tl_us, e5, e6, e7, fun f hsf hf2 => e8 f (by omega) hf2⟩
  · obtain ⟨p', n', s', hp', hn1', hnM', hs', d1, d2, d3, d4, d5, d6, d7, d8⟩ := c10 k hk
    exact ⟨p', n', s', hp', hn1', hnM', hs', d1, d2, by rw [tl_un zk]; exact d3, by rw [tl_un zk]; exact d4, d5, d6, d7, d8⟩
/-- a field of the one that ends is let go: a reference more is to go -/
theorem hp_fld1 {p n s q t : Nat} (hs2 : s < 2) (ht1 : 1 ≤ t) (htM : t ≤ M) (hq : q < 24) (ex : fi (3 * p + s) = nI q) (ey : bf (3 * n + s) = nI t) (hS : hp_St M (tp + 1) nu fi en st bf al td ph tp p n s)
    (H : HR M E L (tp + 1) rc nu it co fi en st va bf al td ph) :
    HR M E L (tp + 1) (fun m => rc m + hp_dl (nI t) m) nu it co fi en (upd st tp (nI (s + 1))) va (upd bf (3 * n + s) 0) al td (upd ph tp (nI (s + 1))) ∧ nu q = nI t ∧ al t ≠ 0 ∧ hp_HM M nu bf al nu (upd bf (3 * n + s) 0) al := by
  obtain ⟨c1, c2, c3, c4, c5, c6, c7, c8, c9, c10, c11, c12, c13⟩ := H
  obtain ⟨hp, hn1, hnM, hs, e1, e2, e3, e4, e5, e6, e7, e8⟩ := hS
  have hal := (c6 t ht1 (by omega) (by have := hp_FC_ge hn1 hnM hs2 ey; omega)).2
  have hnq : nu q = nI t := by
    rcases e8 s (Nat.le_refl s) hs2 with ⟨wx, _⟩ | ⟨q', t', hq', h1', hM', ex', ey', hw⟩
    · rw [ex] at wx; exact absurd wx (tl_nem1 (by omega))
    · have eq : q = q' := tl_inj (ex.symm.trans ex') (by omega) (by omega)
      have et : t = t' := tl_inj (ey.symm.trans ey') (by omega) (by omega)
      rw [eq, et]
      rw [et] at hal
      exact hw hal
  have hcnt : ∀ m, 1 ≤ m → m ≤ 301 → rc m + hp_dl (nI t) m + hp_FC (upd bf (3 * n + s) 0) M m = rc m + hp_FC bf M m := fun m a b => by
    have h := hp_FC_u (bf := bf) (n := m) (y := 0) hn1 hnM hs2
    rw [ey, hp_dl_0 a (by omega)] at h
    omega
  have hbo : ∀ m f, m ≠ n → f < 3 → (upd bf (3 * n + s) 0) (3 * m + f) = bf (3 * m + f) := fun m f hm hf => tl_un (by omega)
  have hna : ∀ m, al m ≠ 0 → m ≠ n := fun m a w => by rw [w] at a; exact a e6
  refine ⟨⟨c1, c2, c3, c4, ?_, ?_, ?_, ?_, ?_, ?_, c11, c12, c13⟩, hnq, hal, fun m a b c => ⟨c, hbo m 0 (hna m c) (by omega), hbo m 1 (hna m c) (by omega)⟩, fun _ _ _ _ _ _ h => h⟩
  · intro p' m hp' a b e
    have := c5 p' m hp' a b e
    rw [← hcnt m a (by omega)] at this
    exact this
  · intro m a b c
    have c' : 0 < rc m + hp_dl (nI t) m + hp_FC (upd bf (3 * n + s) 0) M m := c
    rw [hcnt m a b] at c'
    exact c6 m a b c'
  · intro m a b c
    have := c7 m a b c
    rw [← hcnt m a (by omega)] at this
    exact this
  · intro p' m hp' a b e c
    obtain ⟨k1, k2⟩ := c8 p' m hp' a b e c
    refine ⟨k1, fun f hf => ?_⟩
    rw [hbo m f (hna m c) hf]
    exact k2 f hf
  · intro m t' a b c d1 d2 e
    rw [hbo m 2 (hna m c) (by omega)] at e
    exact c9 m t' a b c d1 d2 e
  · intro k hk
    by_cases zk : k = tp
    · subst zk
      refine ⟨p, n, s + 1, hp, hn1, hnM, by omega, e1, e2, tl_us, tl_us, e5, e6, e7, fun f hsf hf2 => ?_⟩
      rw [tl_un (show 3 * n + f ≠ 3 * n + s by omega)]
      exact e8 f (by omega) hf2
    · obtain ⟨p', n', s', hp', hn1', hnM', hs', d1, d2, d3, d4, d5, d6, d7, d8⟩ := c10 k hk
      have hnn : n' ≠ n := fun w => by
        rw [w] at d5
        have := c3 p' p n hp' hp hn1 hnM d5 e5
        rw [this] at d7
        exact d7 tp (by omega) (fun w => zk w.symm) e1
      refine ⟨p', n', s', hp', hn1', hnM', hs', d1, d2, by rw [tl_un zk]; exact d3, by rw [tl_un zk]; exact d4, d5, d6, d7, fun f hsf hf2 => ?_⟩
      rw [hbo n' f hnn (by omega)]
      exact d8 f hsf hf2
/-- a new object -/
theorem hp_make {o : Nat} {v : Int32} (hM : M < 300) (ho : o < 24) (hz : nu o = 0)
    (hf : ∀ p f, p < 24 → f < 3 → fi' (3 * p + f) = if p = o then -1 else fi (3 * p + f))
    (hb : ∀ n f, 1 ≤ n → n ≤ M + 1 → f < 3 → bf' (3 * n + f) = if n = M + 1 then 0 else bf (3 * n + f))
    (H : HR M E L 0 rc nu it co fi en st va bf al td ph) :
    HR (M + 1) E (L + 1) 0 (fun n => rc n + hp_dl (nI (M + 1)) n) (upd nu o (nI (M + 1))) (upd it o v) (upd co o 1) fi' en st (upd va (M + 1) v) bf' (upd al (M + 1) 1) td ph ∧
    (∀ x y, hp_RW M nu al x y → hp_RW (M + 1) (upd nu o (nI (M + 1))) (upd al (M + 1) 1) x y) := by
  obtain ⟨c1, c2, c3, c4, c5, c6, c7, c8, c9, c10, c11, c12, c13⟩ := H
  have hzero : rc (M + 1) + hp_FC bf M (M + 1) = 0 := by
    refine Classical.byContradiction (fun z => ?_)
    have := (c6 (M + 1) (by omega) (by omega) (by omega)).1
    omega
  have hFC : ∀ m, 1 ≤ m → m ≤ 301 → hp_FC bf' (M + 1) m = hp_FC bf M m := fun m a b => by
    have e1 : hp_FC bf' (M + 1) m = hp_FC bf' M m + hp_fc bf' m M := rfl
    have e2 : hp_fc bf' m M = 0 := by
      unfold hp_fc
      have k1 := hb (M + 1) 0 (by omega) (by omega) (by omega)
      have k2 := hb (M + 1) 1 (by omega) (by omega) (by omega)
      rw [if_pos rfl] at k1 k2
      rw [show 3 * (M + 1) = 3 * (M + 1) + 0 from rfl, k1, show 3 * (M + 1) + 0 + 1 = 3 * (M + 1) + 1 from rfl, k2, hp_dl_0 a (by omega)]
    have e3 : hp_FC bf' M m = hp_FC bf M m := hp_FC_w (fun o a b => by
      have k1 := hb o 0 a (by omega) (by omega)
      have k2 := hb o 1 a (by omega) (by omega)
      rw [if_neg (by omega)] at k1 k2
      exact ⟨k1, k2⟩)
    omega
  have hnu : ∀ q m, q < 24 → 1 ≤ m → m ≤ M + 1 → (upd nu o (nI (M + 1))) q = nI m → (q = o ∧ m = M + 1) ∨ (q ≠ o ∧ m ≤ M ∧ nu q = nI m) := fun q m hq a b e => by
    by_cases w : q = o
    · rw [w, tl_us] at e
      exact Or.inl ⟨w, (tl_inj e (by omega) (by omega)).symm⟩
    · rw [tl_un w] at e
      obtain ⟨m', hm', e'⟩ := c2 q hq
      have := tl_inj (e.symm.trans e') (by omega) (by omega)
      exact Or.inr ⟨w, by omega, e⟩
  have halo : ∀ m, m ≤ M → (upd al (M + 1) 1) m = al m := fun m h => tl_un (by omega)
  have hRW : ∀ x y, hp_RW M nu al x y → hp_RW (M + 1) (upd nu o (nI (M + 1))) (upd al (M + 1) 1) x y := fun x y w => by
    rcases w with w | ⟨q, t, hq, h1, hM', ex, ey, hn⟩
    · exact Or.inl w
    · refine Or.inr ⟨q, t, hq, h1, by omega, ex, ey, fun ha => ?_⟩
      rw [halo t hM'] at ha
      have := hn ha
      rw [tl_un (show q ≠ o from fun w => by rw [w, hz] at this; exact nI_ne0 h1 (by omega) this.symm)]
      exact this
  have hlv := sm_up (f := hp_lv nu al) (g := hp_lv (upd nu o (nI (M + 1))) (upd al (M + 1) 1)) ho (fun q hq hk => by
    obtain ⟨m, hm, e⟩ := c2 q hq
    unfold hp_lv
    rw [tl_un hk, e, nI_clamp (by omega), halo m hm])
  have hed := sm_up (f := hp_ed nu al) (g := hp_ed (upd nu o (nI (M + 1))) (upd al (M + 1) 1)) ho (fun q hq hk => by
    obtain ⟨m, hm, e⟩ := c2 q hq
    unfold hp_ed
    rw [tl_un hk, e, nI_clamp (by omega), halo m hm])
  have a1 : (upd al (M + 1) 1) (M + 1) ≠ 0 := by rw [tl_us]; exact tl_n1
  rw [hp_lvz hz, hp_lv1 tl_us (by omega) (by omega) a1, c11] at hlv
  rw [hp_edz hz, hp_ed0 tl_us (by omega) a1, c12] at hed
  refine ⟨⟨by omega, ?_, ?_, ?_, ?_, ?_, ?_, ?_, ?_, fun k hk => absurd hk (by omega), by omega, by omega, by omega⟩, hRW⟩
  · intro q hq
    by_cases w : q = o
    · exact ⟨M + 1, by omega, by rw [w, tl_us]⟩
    · obtain ⟨m, hm, e⟩ := c2 q hq
      exact ⟨m, by omega, by rw [tl_un w]; exact e⟩
  · intro q q' m hq hq' a b e e'
    rcases hnu q m hq a b e with ⟨k1, k2⟩ | ⟨k1, k2, k3⟩
    · rcases hnu q' m hq' a b e' with ⟨j1, j2⟩ | ⟨j1, j2, j3⟩
      · rw [k1, j1]
      · omega
    · rcases hnu q' m hq' a b e' with ⟨j1, j2⟩ | ⟨j1, j2, j3⟩
      · omega
      · exact c3 q q' m hq hq' a k2 k3 j3
  · intro m a b c
    by_cases w : m = M + 1
    · exact ⟨o, ho, by rw [tl_us, w]⟩
    · rw [halo m (by omega)] at c
      obtain ⟨q, hq, e⟩ := c4 m a (by omega) c
      exact ⟨q, hq, by rw [tl_un (show q ≠ o from fun w => by rw [w, hz] at e; exact nI_ne0 a (by omega) e.symm)]; exact e⟩
  · intro q m hq a b e
    show _ = nI (rc m + hp_dl (nI (M + 1)) m + hp_FC bf' (M + 1) m)
    rw [hFC m a (by omega)]
    rcases hnu q m hq a b e with ⟨k1, k2⟩ | ⟨k1, k2, k3⟩
    · rw [k1, k2, tl_us, hp_dl_s, show rc (M + 1) + 1 + hp_FC bf M (M + 1) = 1 by omega]
      rfl
    · rw [tl_un k1, hp_dl_n (by omega) (by omega) (by omega), Nat.add_zero]
      exact c5 q m hq a k2 k3
  · intro m a b c
    have c' : 0 < rc m + hp_dl (nI (M + 1)) m + hp_FC bf' (M + 1) m := c
    rw [hFC m a b] at c'
    by_cases w : m = M + 1
    · exact ⟨by omega, by rw [w]; exact a1⟩
    · rw [hp_dl_n (fun z => w z.symm) (by omega) (by omega)] at c'
      obtain ⟨k1, k2⟩ := c6 m a b c'
      exact ⟨by omega, by rw [halo m k1]; exact k2⟩
  · intro m a b c
    show 0 < rc m + hp_dl (nI (M + 1)) m + hp_FC bf' (M + 1) m
    by_cases w : m = M + 1
    · rw [w, hp_dl_s]; omega
    · rw [halo m (by omega)] at c
      rw [hFC m a (by omega)]
      have := c7 m a (by omega) c
      omega
  · intro q m hq a b e c
    rcases hnu q m hq a b e with ⟨k1, k2⟩ | ⟨k1, k2, k3⟩
    · refine ⟨by rw [k1, k2, tl_us, tl_us], fun f hf3 => ?_⟩
      rw [hf q f hq hf3, if_pos k1, hb m f a b hf3, if_pos k2]
      exact Or.inl ⟨rfl, rfl⟩
    · rw [halo m k2] at c
      obtain ⟨j1, j2⟩ := c8 q m hq a k2 k3 c
      refine ⟨by rw [tl_un k1, tl_un (show m ≠ M + 1 by omega)]; exact j1, fun f hf3 => ?_⟩
      rw [hf q f hq hf3, if_neg k1, hb m f a b hf3, if_neg (by omega)]
      exact hRW _ _ (j2 f hf3)
  · intro m t a b c ht1 htM e
    rw [hb m 2 a b (by omega)] at e
    by_cases w : m = M + 1
    · rw [if_pos w] at e
      exact absurd e.symm (nI_ne0 ht1 (by omega))
    · rw [if_neg w] at e
      rw [halo m (by omega)] at c
      have htM' : t ≤ M := by
        obtain ⟨q, hq, e'⟩ := c4 m a (by omega) c
        rcases (c8 q m hq a (by omega) e' c).2 2 (by omega) with ⟨_, wy⟩ | ⟨q', t', _, _, hM'', _, ey, _⟩
        · rw [wy] at e; exact absurd e.symm (nI_ne0 ht1 (by omega))
        · have := tl_inj (e.symm.trans ey) (by omega) (by omega)
          omega
      rw [halo t htM']
      exact c9 m t a (by omega) c ht1 htM' e
/-- one count more -/
theorem hp_up {q t : Nat} (hq : q < 24) (h1 : 1 ≤ t) (hM : t ≤ M) (hn : nu q = nI t) (ha : al t ≠ 0) (H : HR M E L tp rc nu it co fi en st va bf al td ph) :
    HR M E L tp (fun n => rc n + hp_dl (nI t) n) nu it (upd co q (co q + 1)) fi en st va bf al td ph := by
  obtain ⟨c1, c2, c3, c4, c5, c6, c7, c8, c9, c10, c11, c12, c13⟩ := H
  refine ⟨c1, c2, c3, c4, ?_, ?_, ?_, c8, c9, c10, c11, c12, c13⟩
  · intro p n hp a b e
    show _ = nI (rc n + hp_dl (nI t) n + hp_FC bf M n)
    by_cases z : p = q
    · subst z
      have en : n = t := tl_inj (e.symm.trans hn) (by omega) (by omega)
      subst en
      rw [tl_us, c5 p n hp a b e, hp_dl_s, nI_1]
      exact congrArg nI (by omega)
    · have en : t ≠ n := fun w => z (c3 p q n hp hq a b e (by rw [hn, w]))
      rw [tl_un z, c5 p n hp a b e, hp_dl_n en (by omega) (by omega), Nat.add_zero]
  · intro n a b c
    have c' : 0 < rc n + hp_dl (nI t) n + hp_FC bf M n := c
    by_cases z : t = n
    · rw [← z]; exact ⟨hM, ha⟩
    · rw [hp_dl_n z (by omega) (by omega)] at c'
      exact c6 n a b c'
  · intro n a b c
    show 0 < rc n + hp_dl (nI t) n + hp_FC bf M n
    have := c7 n a b c
    omega
theorem hp_rwc {p p' n n' f f' : Nat} (h3 : ∀ p q n, p < 24 → q < 24 → 1 ≤ n → n ≤ M → nu p = nI n → nu q = nI n → p = q) (hp : p < 24) (hp' : p' < 24) (h1 : 1 ≤ n) (hM : n ≤ M) (h1' : 1 ≤ n') (hM' : n' ≤ M) (hM300 : M ≤ 300) (e : nu p = nI n) (e' : nu p' = nI n') (hf : f < 3) (hf' : f' < 3) : 3 * p' + f' = 3 * p + f ↔ 3 * n' + f' = 3 * n + f := by
  constructor
  · intro w
    have hpp : p' = p := by omega
    rw [hpp, e] at e'
    have := tl_inj e' (by omega) (by omega)
    omega
  · intro w
    have hnn : n' = n := by omega
    rw [hnn] at e'
    have := h3 p' p n hp' hp h1 hM e' e
    omega
/-- a field is put, counted -/
theorem hp_put {p n f : Nat} {x y : Int32} (hp : p < 24) (h1 : 1 ≤ n) (hM : n ≤ M) (hn : nu p = nI n) (ha : al n ≠ 0) (hf : f < 2) (hw : hp_RW M nu al x y)
    (H : HR M E L 0 (fun m => rc m + hp_dl y m) nu it co fi en st va bf al td ph) :
    HR M E L 0 (fun m => rc m + hp_dl (bf (3 * n + f)) m) nu it co (upd fi (3 * p + f) x) en st va (upd bf (3 * n + f) y) al td ph := by
  obtain ⟨c1, c2, c3, c4, c5, c6, c7, c8, c9, c10, c11, c12, c13⟩ := H
  have hcnt : ∀ m, rc m + hp_dl (bf (3 * n + f)) m + hp_FC (upd bf (3 * n + f) y) M m = rc m + hp_dl y m + hp_FC bf M m := fun m => by
    have h := hp_FC_u (bf := bf) (n := m) (y := y) h1 hM hf
    omega
  refine ⟨c1, c2, c3, c4, ?_, ?_, ?_, ?_, ?_, fun k hk => absurd hk (by omega), c11, c12, c13⟩
  · intro p' m hp' a b e
    have k : co p' = nI (rc m + hp_dl y m + hp_FC bf M m) := c5 p' m hp' a b e
    rw [← hcnt m] at k
    exact k
  · intro m a b c
    have c' : 0 < rc m + hp_dl (bf (3 * n + f)) m + hp_FC (upd bf (3 * n + f) y) M m := c
    rw [hcnt m] at c'
    exact c6 m a b c'
  · intro m a b c
    have k : 0 < rc m + hp_dl y m + hp_FC bf M m := c7 m a b c
    rw [← hcnt m] at k
    exact k
  · intro p' m hp' a b e c
    obtain ⟨k1, k2⟩ := c8 p' m hp' a b e c
    refine ⟨k1, fun g hg => ?_⟩
    have hi := hp_rwc c3 hp hp' h1 hM a b c1 hn e (show f < 3 by omega) hg
    by_cases z : 3 * p' + g = 3 * p + f
    · rw [z, hi.mp z, tl_us, tl_us]; exact hw
    · rw [tl_un z, tl_un (fun w => z (hi.mpr w))]; exact k2 g hg
  · intro m t a b c d1 d2 e
    rw [tl_un (show 3 * m + 2 ≠ 3 * n + f by omega)] at e
    exact c9 m t a b c d1 d2 e
/-- a weak field is put -/
theorem hp_putw {p n : Nat} {x y : Int32} (hp : p < 24) (h1 : 1 ≤ n) (hM : n ≤ M) (hn : nu p = nI n) (hw : hp_RW M nu al x y) (hy : ∀ t, 1 ≤ t → t ≤ M → y = nI t → al t ≠ 0)
    (H : HR M E L 0 rc nu it co fi en st va bf al td ph) :
    HR M E L 0 rc nu it co (upd fi (3 * p + 2) x) en st va (upd bf (3 * n + 2) y) al td ph := by
  obtain ⟨c1, c2, c3, c4, c5, c6, c7, c8, c9, c10, c11, c12, c13⟩ := H
  have hFC : ∀ m, hp_FC (upd bf (3 * n + 2) y) M m = hp_FC bf M m := fun m => hp_FC_w (fun o a b => ⟨tl_un (by omega), tl_un (by omega)⟩)
  refine ⟨c1, c2, c3, c4, ?_, ?_, ?_, ?_, ?_, fun k hk => absurd hk (by omega), c11, c12, c13⟩
  · intro p' m hp' a b e
    rw [hFC m]; exact c5 p' m hp' a b e
  · intro m a b c
    rw [hFC m] at c; exact c6 m a b c
  · intro m a b c
    rw [hFC m]; exact c7 m a b c
  · intro p' m hp' a b e c
    obtain ⟨k1, k2⟩ := c8 p' m hp' a b e c
    refine ⟨k1, fun g hg => ?_⟩
    have hi := hp_rwc c3 hp hp' h1 hM a b c1 hn e (show 2 < 3 by omega) hg
    by_cases z : 3 * p' + g = 3 * p + 2
    · rw [z, hi.mp z, tl_us, tl_us]; exact hw
    · rw [tl_un z, tl_un (fun w => z (hi.mpr w))]; exact k2 g hg
  · intro m t a b c d1 d2 e
    by_cases z : 3 * m + 2 = 3 * n + 2
    · rw [z, tl_us] at e; exact hy t d1 d2 e
    · rw [tl_un z] at e; exact c9 m t a b c d1 d2 e
/-- an int grows -/
theorem hp_grow {p n : Nat} {v : Int32} (hp : p < 24) (h1 : 1 ≤ n) (hM : n ≤ M) (hn : nu p = nI n) (ha : al n ≠ 0)
    (H : HR M E L 0 rc nu it co fi en st va bf al td ph) :
    HR M E L 0 rc nu (upd it p (it p + v)) co fi en st (upd va n (va n + v)) bf al td ph := by
  obtain ⟨c1, c2, c3, c4, c5, c6, c7, c8, c9, c10, c11, c12, c13⟩ := H
  refine ⟨c1, c2, c3, c4, c5, c6, c7, ?_, c9, c10, c11, c12, c13⟩
  intro p' m hp' a b e c
  obtain ⟨k1, k2⟩ := c8 p' m hp' a b e c
  refine ⟨?_, k2⟩
  have k0 := (c8 p n hp h1 hM hn ha).1
  by_cases z : p' = p
  · have z2 : m = n := by
      rw [z, hn] at e
      exact (tl_inj e (by omega) (by omega)).symm
    rw [z, z2, tl_us, tl_us, k0]
  · have z2 : m ≠ n := fun w => z (c3 p' p n hp' hp h1 hM (by rw [e, w]) hn)
    rw [tl_un z, tl_un z2]; exact k1
/-- nothing is there -/
theorem hp_none (h : ∀ p, p < 24 → nu p = 0) (hr : ∀ n, 1 ≤ n → n ≤ 301 → rc n = 0) : HR 0 0 0 0 rc nu it co fi en st va bf al td ph := by
  have hF : ∀ n, hp_FC bf 0 n = 0 := fun _ => rfl
  refine ⟨by omega, fun p hp => ⟨0, by omega, by rw [h p hp, nI_0]⟩, ?_, fun n a b => by omega, fun p n _ a b => by omega, ?_, fun n a b => by omega, fun p n _ a b => by omega, fun n t a b => by omega, fun k hk => by omega, ?_, ?_, rfl⟩
  · intro p q n hp hq a b
    omega
  · intro n a b c
    rw [hr n a b, hF] at c
    omega
  · exact sm_zero (fun i hi => hp_lvz (h i hi))
  · exact sm_zero (fun i hi => hp_edz (h i hi))
/-- what a reference that counts refers to is there -/
theorem hp_al {n : Nat} (h1 : 1 ≤ n) (hM : n ≤ 301) (H : HR M E L tp rc nu it co fi en st va bf al td ph) (h : 0 < rc n + hp_FC bf M n) : n ≤ M ∧ al n ≠ 0 := H.2.2.2.2.2.1 n h1 hM h
/-- room -/
theorem hp_room (hL : L < 24) (H : HR M E L 0 rc nu it co fi en st va bf al td ph) : ∃ o, o < 24 ∧ nu o = 0 := by
  obtain ⟨c1, c2, c3, c4, c5, c6, c7, c8, c9, c10, c11, c12, c13⟩ := H
  have hs : sm (fun p => hp_lv nu al p + hp_ed nu al p) 24 < 24 := by
    rw [sm_add, c11, c12]; omega
  obtain ⟨k, hk, e⟩ := sm_room hs
  refine ⟨k, hk, Classical.byContradiction (fun z => ?_)⟩
  have e' : hp_lv nu al k + hp_ed nu al k = 0 := e
  unfold hp_lv hp_ed at e'
  by_cases w : al (nu k).toNatClampNeg = 0
  · rw [if_pos (show nu k ≠ 0 ∧ al (nu k).toNatClampNeg = 0 from ⟨z, w⟩)] at e'
    omega
  · rw [if_pos (show nu k ≠ 0 ∧ al (nu k).toNatClampNeg ≠ 0 from ⟨z, w⟩)] at e'
    omega
theorem hp_L24 (H : HR M E L tp rc nu it co fi en st va bf al td ph) : L + tp ≤ 24 ∧ E + L = M ∧ M ≤ 300 := by
  obtain ⟨c1, c2, c3, c4, c5, c6, c7, c8, c9, c10, c11, c12, c13⟩ := H
  have h24 := hp_le24 nu al
  rw [c11, c12] at h24
  exact ⟨h24, c13, c1⟩
end
end
section
section
variable {f_known f_depth f_brief f_outCount f_endCount f_ups f_downs f_steps f_made f_alive f_gift f_ended f_stopped : Int32} {a_length a_lends a_ops a_firsts a_seconds a_thirds a_need a_loan a_hands a_keeps a_come a_numbers a_ints a_counts a_fields a_ending a_stage a_fMethod a_fLine a_held a_lent a_outs a_ends : Nat → Int32}
variable {g_known g_made g_living g_counted g_less g_depth g_begun g_given g_outcome g_isShort g_ran g_put g_ended : Int32} {b_ops b_as b_bs b_cs b_size b_lent b_need b_plans b_keep b_value b_fields b_alive b_method b_pc b_variable b_loan b_outs b_ends b_todo b_phase : Nat → Int32}
/-! Y counts references -/
theorem yc_57 {post : Int32 → Prop} {M c N : Nat} (hM : M ≤ 300) (hp : post (nI (c + hp_FC b_fields M N))) : ∀ n o, o ≤ M → M < n + o →
    wY_countOf_57 post (nI N) g_known (nI M) g_living g_counted g_less g_depth g_begun g_given g_outcome g_isShort g_ran g_put g_ended b_ops b_as b_bs b_cs b_size b_lent b_need b_plans b_keep b_value b_fields b_alive b_method b_pc b_variable b_loan b_outs b_ends b_todo b_phase n (nI (c + sm (hp_fc b_fields N) o)) (nI (o + 1)) := by
  intro n
  induction n with
  | zero => intro o h1 h2; omega
  | succ n ih =>
    intro o h1 h2
    rw [wY_countOf_57]
    by_cases e : o = M
    · subst e
      exact br_t (nI_lt (by omega) (by omega)) hp
    · have e3 : 3 * nI (o + 1) = nI (3 * (o + 1)) := tl_3a _
      have e31 : nI (3 * (o + 1)) + 1 = nI (3 * (o + 1) + 1) := nI_1 _
      have c3 : (nI (3 * (o + 1))).toNatClampNeg = 3 * (o + 1) := nI_clamp (by omega)
      have c31 : (nI (3 * (o + 1) + 1)).toNatClampNeg = 3 * (o + 1) + 1 := nI_clamp (by omega)
      have v3 : vp_in (nI (3 * (o + 1))) 903 := vp_in_nI (by omega) (by omega)
      have v31 : vp_in (nI (3 * (o + 1) + 1)) 903 := vp_in_nI (by omega) (by omega)
      refine br_f (nI_nlt (by omega) (by omega)) ?_
      unfold wY_countOf_80
      rw [e3, e31, c3, c31]
      have I := ih (o + 1) (by omega) (by omega)
      have es : sm (hp_fc b_fields N) (o + 1) = sm (hp_fc b_fields N) o + hp_fc b_fields N o := rfl
      refine ⟨v3, br_c (fun h => nm_r (nI_1 _) ⟨v31, br_c (fun g => nm_r (nI_1 _) (nm_r (nI_1 _) ?_)) (fun g => nm_r (nI_1 _) ?_)⟩) (fun h => ⟨v31, br_c (fun g => nm_r (nI_1 _) (nm_r (nI_1 _) ?_)) (fun g => nm_r (nI_1 _) ?_)⟩)⟩
      · have ez : hp_fc b_fields N o = 2 := by
          unfold hp_fc hp_dl
          rw [if_pos h, if_pos g]
        rw [es, ez] at I
        exact I
      · have ez : hp_fc b_fields N o = 1 := by
          unfold hp_fc hp_dl
          rw [if_pos h, if_neg g]
        rw [es, ez] at I
        exact I
      · have ez : hp_fc b_fields N o = 1 := by
          unfold hp_fc hp_dl
          rw [if_neg h, if_pos g]
        rw [es, ez] at I
        exact I
      · have ez : hp_fc b_fields N o = 0 := by
          unfold hp_fc hp_dl
          rw [if_neg h, if_neg g]
        rw [es, ez] at I
        exact I
theorem yc_16 {post : Int32 → Prop} {M D c N : Nat} (hM : M ≤ 300) (hD : D ≤ 6) (hp : post (nI (c + sm (hp_vl b_variable b_loan N) (6 * D) + hp_FC b_fields M N))) : ∀ n w, w ≤ 6 * D → 6 * D < n + w →
    wY_countOf_16 post (nI N) g_known (nI M) g_living g_counted g_less (nI D) g_begun g_given g_outcome g_isShort g_ran g_put g_ended b_ops b_as b_bs b_cs b_size b_lent b_need b_plans b_keep b_value b_fields b_alive b_method b_pc b_variable b_loan b_outs b_ends b_todo b_phase n (nI (c + sm (hp_vl b_variable b_loan N) w)) (nI w) := by
  intro n
  induction n with
  | zero => intro w h1 h2; omega
  | succ n ih =>
    intro w h1 h2
    rw [wY_countOf_16, tl_6a]
    by_cases e : w = 6 * D
    · subst e
      exact br_t (nI_le (by omega) (by omega)) ⟨M + 1, yc_57 (c := c + sm (hp_vl b_variable b_loan N) (6 * D)) hM hp (M + 1) 0 (by omega) (by omega)⟩
    · have cw : (nI w).toNatClampNeg = w := nI_clamp (by omega)
      have vw : vp_in (nI w) 36 := vp_in_nI (by omega) (by omega)
      have I := ih (w + 1) (by omega) (by omega)
      have es : sm (hp_vl b_variable b_loan N) (w + 1) = sm (hp_vl b_variable b_loan N) w + hp_vl b_variable b_loan N w := rfl
      refine br_f (nI_ge (by omega) (by omega)) ?_
      rw [cw]
      refine ⟨vw, br_c (fun h => ⟨vw, br_c (fun g => nm_r (nI_1 _) (nm_r (nI_1 _) ?_)) (fun g => nm_r (nI_1 _) ?_)⟩) (fun h => nm_r (nI_1 _) ?_)⟩
      · have ez : hp_vl b_variable b_loan N w = 1 := by
          unfold hp_vl hp_dl
          rw [if_pos g, if_pos h]
        rw [es, ez] at I
        exact I
      · have ez : hp_vl b_variable b_loan N w = 0 := by
          unfold hp_vl
          rw [if_neg g]
        rw [es, ez] at I
        exact I
      · have ez : hp_vl b_variable b_loan N w = 0 := by
          unfold hp_vl hp_dl
          rw [if_neg h, ite_self]
        rw [es, ez] at I
        exact I
theorem yc {post : Int32 → Prop} {M D N : Nat} (hM : M ≤ 300) (hD : D ≤ 6) (hp : post (nI (hp_RC g_given b_variable b_loan D N + hp_FC b_fields M N))) :
    wpY_countOf post (g_known, nI M, g_living, g_counted, g_less, nI D, g_begun, g_given, g_outcome, g_isShort, g_ran, g_put, g_ended, b_ops, b_as, b_bs, b_cs, b_size, b_lent, b_need, b_plans, b_keep, b_value, b_fields, b_alive, b_method, b_pc, b_variable, b_loan, b_outs, b_ends, b_todo, b_phase) (nI N) := by
  unfold hp_RC hp_dl at hp
  by_cases h : g_given = nI N
  · rw [if_pos h] at hp
    exact br_t h ⟨6 * D + 1, yc_16 (c := 1) hM hD hp (6 * D + 1) 0 (by omega) (by omega)⟩
  · rw [if_neg h] at hp
    exact br_f h ⟨6 * D + 1, yc_16 (c := 0) hM hD hp (6 * D + 1) 0 (by omega) (by omega)⟩
/-! one count less -/
theorem dn_le1 {post : Int32 → SX → Prop} {o k : Nat} {x2 : Int32} (ho : o < 24) (hk : a_counts o = nI (k + 1)) (h0 : 0 < k) (hkb : k < 2 ^ 30)
    (h : post x2 (f_known, f_depth, f_brief, f_outCount, f_endCount, f_ups, f_downs + 1, f_steps, f_made, f_alive, f_gift, f_ended, f_stopped, a_length, a_lends, a_ops, a_firsts, a_seconds, a_thirds, a_need, a_loan, a_hands, a_keeps, a_come, a_numbers, a_ints, upd a_counts o (a_counts o - 1), a_fields, a_ending, a_stage, a_fMethod, a_fLine, a_held, a_lent, a_outs, a_ends)) : wpX_less post (f_known, f_depth, f_brief, f_outCount, f_endCount, f_ups, f_downs, f_steps, f_made, f_alive, f_gift, f_ended, f_stopped, a_length, a_lends, a_ops, a_firsts, a_seconds, a_thirds, a_need, a_loan, a_hands, a_keeps, a_come, a_numbers, a_ints, a_counts, a_fields, a_ending, a_stage, a_fMethod, a_fLine, a_held, a_lent, a_outs, a_ends) (nI o) x2 := by
  have c : (nI o).toNatClampNeg = o := nI_clamp (by omega)
  have v : vp_in (nI o) 24 := vp_in_nI ho (by omega)
  refine And.intro v (And.intro v (nm_r (e' := upd a_counts o (a_counts o - 1)) (by rw [c]) (nm_e (And.intro v (br_f ?_ h)))))
  rw [c, tl_us, hk, nI_pred]
  exact nI_nle h0 (by omega)
theorem dn_65 {o tp : Nat} (ho : o < 24) (htp : tp < 25) (hnu : ∀ p, p < 24 → ∃ n, n < 2 ^ 31 ∧ a_numbers p = nI n) : ∀ d k (a_fields : Nat → Int32), k + d = 24 → ∃ fi' : Nat → Int32,
    (∀ p f, p < 24 → f < 3 → fi' (3 * p + f) = if k ≤ p ∧ f = 2 ∧ a_numbers p ≠ 0 ∧ a_fields (3 * p + f) = nI o then -1 else a_fields (3 * p + f)) ∧
    ∀ post : Int32 → SX → Prop, post (nI (tp + 1)) (f_known, f_depth, f_brief, f_outCount, f_endCount, f_ups, f_downs, f_steps, f_made, f_alive, f_gift, f_ended, f_stopped, a_length, a_lends, a_ops, a_firsts, a_seconds, a_thirds, a_need, a_loan, a_hands, a_keeps, a_come, a_numbers, a_ints, a_counts, fi', upd a_ending tp (nI o), upd a_stage tp 0, a_fMethod, a_fLine, a_held, a_lent, a_outs, a_ends) →
      wX_less_65 post (nI o) (nI tp) f_known f_depth f_brief f_outCount f_endCount f_ups f_downs f_steps f_made f_alive f_gift f_ended f_stopped (d + 1) (nI k) a_length a_lends a_ops a_firsts a_seconds a_thirds a_need a_loan a_hands a_keeps a_come a_numbers a_ints a_counts a_fields a_ending a_stage a_fMethod a_fLine a_held a_lent a_outs a_ends := by
  intro d
  induction d with
  | zero =>
    intro k a_fields hk
    refine ⟨a_fields, fun p f hp hf => by rw [if_neg (fun z => by omega)], fun post h => ?_⟩
    have ct : (nI tp).toNatClampNeg = tp := nI_clamp (by omega)
    have vt : vp_in (nI tp) 25 := vp_in_nI (by omega) (by omega)
    rw [wX_less_65]
    refine br_t (nI_le (a := 24) (by omega) (by omega)) ⟨vt, nm_r (e' := upd a_ending tp (nI o)) (by rw [ct, tl_nb (by omega)]) ⟨vt, nm_r (e' := upd a_stage tp 0) (by rw [ct, tl_nb0]) ?_⟩⟩
    rw [nI_1]
    exact h
  | succ d ih =>
    intro k a_fields hk
    have ck : (nI k).toNatClampNeg = k := nI_clamp (by omega)
    have vk : vp_in (nI k) 24 := vp_in_nI (by omega) (by omega)
    have e3 : 3 * nI k + 2 = nI (3 * k + 2) := tl_3 k 2
    have c3 : (nI (3 * k + 2)).toNatClampNeg = 3 * k + 2 := nI_clamp (by omega)
    have v3 : vp_in (nI (3 * k + 2)) 72 := vp_in_nI (by omega) (by omega)
    have hc : ¬ (24 : Int32) ≤ nI k := nI_ge (b := 24) (by omega) (by omega)
    obtain ⟨n, hn, en⟩ := hnu k (by omega)
    by_cases z : n = 0
    · obtain ⟨fi', h1, h2⟩ := ih (k + 1) a_fields (by omega)
      have en0 : a_numbers k = 0 := by rw [en, z, nI_0]
      refine ⟨fi', fun p f hp hf => ?_, fun post h => ?_⟩
      · rw [h1 p f hp hf]
        by_cases w : p = k
        · rw [if_neg (fun y => by omega), if_neg (fun y => y.2.2.1 (by rw [w]; exact en0))]
        · by_cases y : f = 2 ∧ a_numbers p ≠ 0 ∧ a_fields (3 * p + f) = nI o
          · by_cases y2 : k ≤ p
            · rw [if_pos ⟨by omega, y⟩, if_pos ⟨y2, y⟩]
            · rw [if_neg (fun t => by omega), if_neg (fun t => y2 t.1)]
          · rw [if_neg (fun t => y t.2), if_neg (fun t => y t.2)]
      · rw [wX_less_65]
        refine br_f hc ⟨vk, br_t ?_ (nm_r (nI_1 k) (h2 post h))⟩
        rw [ck, en0]
        exact (by decide : (0 : Int32) ≤ 0)
    · have hnn : a_numbers k ≠ 0 := by rw [en]; exact nI_ne0 (by omega) hn
      have hng : ¬ a_numbers (nI k).toNatClampNeg ≤ 0 := by rw [ck, en]; exact nI_nle (by omega) hn
      by_cases y : a_fields (3 * k + 2) = nI o
      · obtain ⟨fi', h1, h2⟩ := ih (k + 1) (upd a_fields (3 * k + 2) (-1)) (by omega)
        refine ⟨fi', fun p f hp hf => ?_, fun post h => ?_⟩
        · rw [h1 p f hp hf]
          by_cases w : p = k
          · rw [if_neg (fun t => by omega), w]
            by_cases wf : f = 2
            · rw [wf, tl_us, if_pos ⟨by omega, rfl, hnn, y⟩]
            · rw [tl_un (by omega), if_neg (fun t => wf t.2.1)]
          · rw [tl_un (show 3 * p + f ≠ 3 * k + 2 by omega)]
            by_cases y : f = 2 ∧ a_numbers p ≠ 0 ∧ a_fields (3 * p + f) = nI o
            · by_cases y2 : k ≤ p
              · rw [if_pos ⟨by omega, y⟩, if_pos ⟨y2, y⟩]
              · rw [if_neg (fun t => by omega), if_neg (fun t => y2 t.1)]
            · rw [if_neg (fun t => y t.2), if_neg (fun t => y t.2)]
        · rw [wX_less_65]
          refine br_f hc ⟨vk, br_f hng ?_⟩
          rw [e3, c3]
          exact ⟨v3, br_t y ⟨v3, nm_r (e' := upd a_fields (3 * k + 2) (-1)) (by rw [tl_nbm1]) (nm_r (nI_1 k) (h2 post h))⟩⟩
      · obtain ⟨fi', h1, h2⟩ := ih (k + 1) a_fields (by omega)
        refine ⟨fi', fun p f hp hf => ?_, fun post h => ?_⟩
        · rw [h1 p f hp hf]
          by_cases w : p = k
          · rw [if_neg (fun t => by omega), w]
            by_cases wf : f = 2
            · rw [wf, if_neg (fun t => y t.2.2.2)]
            · rw [if_neg (fun t => wf t.2.1)]
          · by_cases y : f = 2 ∧ a_numbers p ≠ 0 ∧ a_fields (3 * p + f) = nI o
            · by_cases y2 : k ≤ p
              · rw [if_pos ⟨by omega, y⟩, if_pos ⟨y2, y⟩]
              · rw [if_neg (fun t => by omega), if_neg (fun t => y2 t.1)]
            · rw [if_neg (fun t => y t.2), if_neg (fun t => y t.2)]
        · rw [wX_less_65]
          refine br_f hc ⟨vk, br_f hng ?_⟩
          rw [e3, c3]
          exact ⟨v3, br_f y (nm_r (nI_1 k) (h2 post h))⟩
theorem dn_le0 {o tp E L : Nat} (ho : o < 24) (htp : tp < 25) (hE : E < 300) (hnu : ∀ p, p < 24 → ∃ n, n < 2 ^ 31 ∧ a_numbers p = nI n) (hk : a_counts o = nI 1) : ∃ fi' : Nat → Int32,
    (∀ p f, p < 24 → f < 3 → fi' (3 * p + f) = if f = 2 ∧ a_numbers p ≠ 0 ∧ a_fields (3 * p + f) = nI o then -1 else a_fields (3 * p + f)) ∧
    ∀ post : Int32 → SX → Prop, post (nI (tp + 1)) (f_known, f_depth, f_brief, f_outCount, nI (E + 1), f_ups, f_downs + 1, f_steps, f_made, nI L, f_gift, f_ended, f_stopped, a_length, a_lends, a_ops, a_firsts, a_seconds, a_thirds, a_need, a_loan, a_hands, a_keeps, a_come, a_numbers, a_ints, upd a_counts o (a_counts o - 1), fi', upd a_ending tp (nI o), upd a_stage tp 0, a_fMethod, a_fLine, a_held, a_lent, a_outs, upd a_ends E (a_numbers o)) →
      wpX_less post (f_known, f_depth, f_brief, f_outCount, nI E, f_ups, f_downs, f_steps, f_made, nI (L + 1), f_gift, f_ended, f_stopped, a_length, a_lends, a_ops, a_firsts, a_seconds, a_thirds, a_need, a_loan, a_hands, a_keeps, a_come, a_numbers, a_ints, a_counts, a_fields, a_ending, a_stage, a_fMethod, a_fLine, a_held, a_lent, a_outs, a_ends) (nI o) (nI tp) := by
  have c : (nI o).toNatClampNeg = o := nI_clamp (by omega)
  have v : vp_in (nI o) 24 := vp_in_nI ho (by omega)
  have cE : (nI E).toNatClampNeg = E := nI_clamp (by omega)
  have vE : vp_in (nI E) 300 := vp_in_nI hE (by omega)
  obtain ⟨fi', h1, h2⟩ := dn_65 (a_numbers := a_numbers) ho htp hnu 24 0 a_fields rfl
  refine ⟨fi', fun p f hp hf => ?_, fun post h => ?_⟩
  · rw [h1 p f hp hf]
    by_cases y : f = 2 ∧ a_numbers p ≠ 0 ∧ a_fields (3 * p + f) = nI o
    · rw [if_pos ⟨by omega, y⟩, if_pos y]
    · rw [if_neg (fun t => y t.2), if_neg y]
  · refine And.intro v (And.intro v (nm_r (e' := upd a_counts o (a_counts o - 1)) (by rw [c]) (nm_e (And.intro v (br_t ?_ (nm_r (nI_1 E) (And.intro v (And.intro vE (nm_r (e' := upd a_ends E (a_numbers o)) (by rw [c, cE]) (nm_r (nI_pred L) ⟨25, h2 post h⟩))))))))))
    rw [c, tl_us, hk]
    exact (by decide : (nI 1 - 1 : Int32) ≤ 0)
theorem dn_36 {t tp M : Nat} (hM : M ≤ 300) (htp : tp < 32) : ∀ d k (b_fields : Nat → Int32), 1 ≤ k → k + d = M + 1 → ∃ bf' : Nat → Int32,
    (∀ n f, 1 ≤ n → n ≤ M → f < 3 → bf' (3 * n + f) = if k ≤ n ∧ f = 2 ∧ b_fields (3 * n + f) = nI t then 0 else b_fields (3 * n + f)) ∧
    ∀ post : Int32 → SY → Prop, post (nI (tp + 1)) (g_known, nI M, g_living, g_counted, g_less, g_depth, g_begun, g_given, g_outcome, g_isShort, g_ran, g_put, g_ended, b_ops, b_as, b_bs, b_cs, b_size, b_lent, b_need, b_plans, b_keep, b_value, bf', b_alive, b_method, b_pc, b_variable, b_loan, b_outs, b_ends, upd b_todo tp (nI t), upd b_phase tp 0) →
      wY_end_36 post (nI t) (nI tp) g_known (nI M) g_living g_counted g_less g_depth g_begun g_given g_outcome g_isShort g_ran g_put g_ended (d + 1) (nI k) b_ops b_as b_bs b_cs b_size b_lent b_need b_plans b_keep b_value b_fields b_alive b_method b_pc b_variable b_loan b_outs b_ends b_todo b_phase := by
  intro d
  induction d with
  | zero =>
    intro k b_fields h1k hk
    refine ⟨b_fields, fun n f hn1 hn hf => by rw [if_neg (fun z => by omega)], fun post h => ?_⟩
    have ct : (nI tp).toNatClampNeg = tp := nI_clamp (by omega)
    have vt : vp_in (nI tp) 32 := vp_in_nI (by omega) (by omega)
    rw [wY_end_36]
    refine br_t (nI_lt (by omega) (by omega)) ⟨vt, nm_r (e' := upd b_todo tp (nI t)) (by rw [ct]) ⟨vt, nm_r (e' := upd b_phase tp 0) (by rw [ct]) ?_⟩⟩
    rw [nI_1]
    exact h
  | succ d ih =>
    intro k b_fields h1k hk
    have e3 : 3 * nI k + 2 = nI (3 * k + 2) := tl_3 k 2
    have c3 : (nI (3 * k + 2)).toNatClampNeg = 3 * k + 2 := nI_clamp (by omega)
    have v3 : vp_in (nI (3 * k + 2)) 903 := vp_in_nI (by omega) (by omega)
    have hc : ¬ nI M < nI k := nI_nlt (by omega) (by omega)
    by_cases y : b_fields (3 * k + 2) = nI t
    · obtain ⟨fi', h1, h2⟩ := ih (k + 1) (upd b_fields (3 * k + 2) 0) (by omega) (by omega)
      refine ⟨fi', fun p f hp1 hp hf => ?_, fun post h => ?_⟩
      · rw [h1 p f hp1 hp hf]
        by_cases w : p = k
        · rw [if_neg (fun t => by omega), w]
          by_cases wf : f = 2
          · rw [wf, tl_us, if_pos ⟨by omega, rfl, y⟩]
          · rw [tl_un (by omega), if_neg (fun t => wf t.2.1)]
        · rw [tl_un (show 3 * p + f ≠ 3 * k + 2 by omega)]
          by_cases y : f = 2 ∧ b_fields (3 * p + f) = nI t
          · by_cases y2 : k ≤ p
            · rw [if_pos ⟨by omega, y⟩, if_pos ⟨y2, y⟩]
            · rw [if_neg (fun t => by omega), if_neg (fun t => y2 t.1)]
          · rw [if_neg (fun t => y t.2), if_neg (fun t => y t.2)]
      · rw [wY_end_36]
        refine br_f hc ?_
        rw [e3, c3]
        exact ⟨v3, br_t y ⟨v3, nm_r (e' := upd b_fields (3 * k + 2) 0) rfl (nm_r (nI_1 k) (h2 post h))⟩⟩
    · obtain ⟨fi', h1, h2⟩ := ih (k + 1) b_fields (by omega) (by omega)
      refine ⟨fi', fun p f hp1 hp hf => ?_, fun post h => ?_⟩
      · rw [h1 p f hp1 hp hf]
        by_cases w : p = k
        · rw [if_neg (fun t => by omega), w]
          by_cases wf : f = 2
          · rw [wf, if_neg (fun t => y t.2.2)]
          · rw [if_neg (fun t => wf t.2.1)]
        · by_cases y : f = 2 ∧ b_fields (3 * p + f) = nI t
          · by_cases y2 : k ≤ p
            · rw [if_pos ⟨by omega, y⟩, if_pos ⟨y2, y⟩]
            · rw [if_neg (fun t => by omega), if_neg (fun t => y2 t.1)]
          · rw [if_neg (fun t => y t.2), if_neg (fun t => y t.2)]
      · rw [wY_end_36]
        refine br_f hc ?_
        rw [e3, c3]
        exact ⟨v3, br_f y (nm_r (nI_1 k) (h2 post h))⟩
theorem dn_end {t tp M E L : Nat} (hM : M ≤ 300) (htp : tp < 32) (hE : E < 301) (ht : t < 301) : ∃ bf' : Nat → Int32,
    (∀ n f, 1 ≤ n → n ≤ M → f < 3 → bf' (3 * n + f) = if f = 2 ∧ b_fields (3 * n + f) = nI t then 0 else b_fields (3 * n + f)) ∧
    ∀ post : Int32 → SY → Prop, post (nI (tp + 1)) (g_known, nI M, nI L, g_counted, g_less, g_depth, g_begun, g_given, g_outcome, g_isShort, g_ran, g_put, nI (E + 1), b_ops, b_as, b_bs, b_cs, b_size, b_lent, b_need, b_plans, b_keep, b_value, bf', upd b_alive t 0, b_method, b_pc, b_variable, b_loan, b_outs, upd b_ends E (nI t), upd b_todo tp (nI t), upd b_phase tp 0) →
      wpY_end post (g_known, nI M, nI (L + 1), g_counted, g_less, g_depth, g_begun, g_given, g_outcome, g_isShort, g_ran, g_put, nI E, b_ops, b_as, b_bs, b_cs, b_size, b_lent, b_need, b_plans, b_keep, b_value, b_fields, b_alive, b_method, b_pc, b_variable, b_loan, b_outs, b_ends, b_todo, b_phase) (nI t) (nI tp) := by
  have c : (nI t).toNatClampNeg = t := nI_clamp (by omega)
  have v : vp_in (nI t) 301 := vp_in_nI ht (by omega)
  have cE : (nI E).toNatClampNeg = E := nI_clamp (by omega)
  have vE : vp_in (nI E) 301 := vp_in_nI hE (by omega)
  obtain ⟨fi', h1, h2⟩ := dn_36 (t := t) hM htp M 1 b_fields (by omega) (by omega)
  refine ⟨fi', fun p f hp1 hp hf => ?_, fun post h => ?_⟩
  · rw [h1 p f hp1 hp hf]
    by_cases y : f = 2 ∧ b_fields (3 * p + f) = nI t
    · rw [if_pos ⟨hp1, y⟩, if_pos y]
    · rw [if_neg (fun t => y t.2), if_neg y]
  · exact nm_r (nI_1 E) (And.intro vE (nm_r (e' := upd b_ends E (nI t)) (by rw [cE]) (And.intro v (nm_r (e' := upd b_alive t 0) (by rw [c, tl_nz0]) (nm_r (nI_pred L) ⟨M + 1, h2 post h⟩)))))
end
end
section
section
variable {f_known f_depth f_brief f_outCount f_endCount f_ups f_downs f_steps f_made f_alive f_gift f_ended f_stopped : Int32} {a_length a_lends a_ops a_firsts a_seconds a_thirds a_need a_loan a_hands a_keeps a_come a_numbers a_ints a_counts a_fields a_ending a_stage a_fMethod a_fLine a_held a_lent a_outs a_ends : Nat → Int32}
variable {g_known g_made g_living g_counted g_less g_depth g_begun g_given g_outcome g_isShort g_ran g_put g_ended : Int32} {b_ops b_as b_bs b_cs b_size b_lent b_need b_plans b_keep b_value b_fields b_alive b_method b_pc b_variable b_loan b_outs b_ends b_todo b_phase : Nat → Int32}
def dn_ms (st : Nat → Int32) (tp : Nat) : Nat := sm (fun k => 3 - (st k).toNatClampNeg) tp
theorem dn_ms_s {st : Nat → Int32} {tp s : Nat} (h : st tp = nI s) (hs : s ≤ 3) : dn_ms st (tp + 1) = dn_ms st tp + (3 - s) := by
  unfold dn_ms
  rw [sm_s, h, nI_clamp (by omega)]
theorem dn_ms_u {st : Nat → Int32} {tp : Nat} {x : Int32} : dn_ms (upd st tp x) tp = dn_ms st tp :=
  sm_cg (fun i hi => by rw [tl_un (by omega)])
theorem dn_hx {x2 : Int32} {P : Int32 → Prop} {y : Int32} (e : x2 = y) (h : P y) : P x2 := by rw [e]; exact h
/-- one round of X's loop: the last field is done -/
theorem dn_xpop {post : SX → Prop} {n tp p : Nat} (ht : tp < 25) (hp : p < 24) (e1 : a_ending tp = nI p) (e2 : a_stage tp = nI 2)
    (h : wX_down_13 post n (nI tp) f_known f_depth f_brief f_outCount f_endCount f_ups f_downs f_steps f_made f_alive f_gift f_ended f_stopped a_length a_lends a_ops a_firsts a_seconds a_thirds a_need a_loan a_hands a_keeps a_come (upd a_numbers p 0) a_ints a_counts a_fields a_ending (upd a_stage tp (nI 3)) a_fMethod a_fLine a_held a_lent a_outs a_ends) : wX_down_13 post (n + 1) (nI (tp + 1)) f_known f_depth f_brief f_outCount f_endCount f_ups f_downs f_steps f_made f_alive f_gift f_ended f_stopped a_length a_lends a_ops a_firsts a_seconds a_thirds a_need a_loan a_hands a_keeps a_come a_numbers a_ints a_counts a_fields a_ending a_stage a_fMethod a_fLine a_held a_lent a_outs a_ends := by
  have ct : (nI tp).toNatClampNeg = tp := nI_clamp (by omega)
  have vt : vp_in (nI tp) 25 := vp_in_nI (by omega) (by omega)
  have cp : (nI p).toNatClampNeg = p := nI_clamp (by omega)
  have vp : vp_in (nI p) 24 := vp_in_nI (by omega) (by omega)
  have hn : ¬ nI (tp + 1) ≤ 0 := nI_nle (by omega) (by omega)
  rw [wX_down_13]
  refine br_f hn ?_
  rw [nI_pred, ct]
  exact ⟨vt, nm_r e1 ⟨vt, vt, nm_r (e' := upd a_stage tp (nI 3)) (by rw [e2, nI_1, tl_nb (by omega)]) (nm_r e2 (br_t rfl (nm_r (pk_m1 tp) ⟨vp, nm_r (e' := upd a_numbers p 0) (by rw [cp]) h⟩)))⟩⟩
/-- one round of X's loop: a field without a reference -/
theorem dn_xf0 {post : SX → Prop} {n tp p s : Nat} (ht : tp < 25) (hp : p < 24) (hs : s < 2) (e1 : a_ending tp = nI p) (e2 : a_stage tp = nI s) (e3 : a_fields (3 * p + s) = -1)
    (h : wX_down_13 post n (nI (tp + 1)) f_known f_depth f_brief f_outCount f_endCount f_ups f_downs f_steps f_made f_alive f_gift f_ended f_stopped a_length a_lends a_ops a_firsts a_seconds a_thirds a_need a_loan a_hands a_keeps a_come a_numbers a_ints a_counts a_fields a_ending (upd a_stage tp (nI (s + 1))) a_fMethod a_fLine a_held a_lent a_outs a_ends) : wX_down_13 post (n + 1) (nI (tp + 1)) f_known f_depth f_brief f_outCount f_endCount f_ups f_downs f_steps f_made f_alive f_gift f_ended f_stopped a_length a_lends a_ops a_firsts a_seconds a_thirds a_need a_loan a_hands a_keeps a_come a_numbers a_ints a_counts a_fields a_ending a_stage a_fMethod a_fLine a_held a_lent a_outs a_ends := by
  have ct : (nI tp).toNatClampNeg = tp := nI_clamp (by omega)
  have vt : vp_in (nI tp) 25 := vp_in_nI (by omega) (by omega)
  have ef : 3 * nI p + nI s = nI (3 * p + s) := tl_3 p s
  have cf : (nI (3 * p + s)).toNatClampNeg = 3 * p + s := nI_clamp (by omega)
  have vf : vp_in (nI (3 * p + s)) 72 := vp_in_nI (by omega) (by omega)
  have hn : ¬ nI (tp + 1) ≤ 0 := nI_nle (by omega) (by omega)
  have h2 : ¬ nI s = 2 := fun z => by have := tl_inj (b := 2) z (by omega) (by omega); omega
  rw [wX_down_13]
  refine br_f hn ?_
  rw [nI_pred, ct]
  refine ⟨vt, nm_r e1 ⟨vt, vt, nm_r (e' := upd a_stage tp (nI (s + 1))) (by rw [e2, nI_1, tl_nb (by omega)]) (nm_r e2 (br_f h2 ?_))⟩⟩
  rw [ef, cf]
  exact ⟨vf, nm_r e3 (br_t tl_m1lt h)⟩
/-- one round of X's loop: a field with a reference -/
theorem dn_xf1 {post : SX → Prop} {n tp p s q : Nat} (ht : tp < 25) (hp : p < 24) (hs : s < 2) (hq : q < 24) (e1 : a_ending tp = nI p) (e2 : a_stage tp = nI s) (e3 : a_fields (3 * p + s) = nI q)
    (h : wpX_less (fun r u => match u with | (f_known, f_depth, f_brief, f_outCount, f_endCount, f_ups, f_downs, f_steps, f_made, f_alive, f_gift, f_ended, f_stopped, a_length, a_lends, a_ops, a_firsts, a_seconds, a_thirds, a_need, a_loan, a_hands, a_keeps, a_come, a_numbers, a_ints, a_counts, a_fields, a_ending, a_stage, a_fMethod, a_fLine, a_held, a_lent, a_outs, a_ends) => wX_down_13 post n r f_known f_depth f_brief f_outCount f_endCount f_ups f_downs f_steps f_made f_alive f_gift f_ended f_stopped a_length a_lends a_ops a_firsts a_seconds a_thirds a_need a_loan a_hands a_keeps a_come a_numbers a_ints a_counts a_fields a_ending a_stage a_fMethod a_fLine a_held a_lent a_outs a_ends) (f_known, f_depth, f_brief, f_outCount, f_endCount, f_ups, f_downs, f_steps, f_made, f_alive, f_gift, f_ended, f_stopped, a_length, a_lends, a_ops, a_firsts, a_seconds, a_thirds, a_need, a_loan, a_hands, a_keeps, a_come, a_numbers, a_ints, a_counts, a_fields, a_ending, upd a_stage tp (nI (s + 1)), a_fMethod, a_fLine, a_held, a_lent, a_outs, a_ends) (nI q) (nI (tp + 1))) : wX_down_13 post (n + 1) (nI (tp + 1)) f_known f_depth f_brief f_outCount f_endCount f_ups f_downs f_steps f_made f_alive f_gift f_ended f_stopped a_length a_lends a_ops a_firsts a_seconds a_thirds a_need a_loan a_hands a_keeps a_come a_numbers a_ints a_counts a_fields a_ending a_stage a_fMethod a_fLine a_held a_lent a_outs a_ends := by
  have ct : (nI tp).toNatClampNeg = tp := nI_clamp (by omega)
  have vt : vp_in (nI tp) 25 := vp_in_nI (by omega) (by omega)
  have ef : 3 * nI p + nI s = nI (3 * p + s) := tl_3 p s
  have cf : (nI (3 * p + s)).toNatClampNeg = 3 * p + s := nI_clamp (by omega)
  have vf : vp_in (nI (3 * p + s)) 72 := vp_in_nI (by omega) (by omega)
  have hn : ¬ nI (tp + 1) ≤ 0 := nI_nle (by omega) (by omega)
  have h2 : ¬ nI s = 2 := fun z => by have := tl_inj (b := 2) z (by omega) (by omega); omega
  rw [wX_down_13]
  refine br_f hn ?_
  rw [nI_pred, ct]
  refine ⟨vt, nm_r e1 ⟨vt, vt, nm_r (e' := upd a_stage tp (nI (s + 1))) (by rw [e2, nI_1, tl_nb (by omega)]) (nm_r e2 (br_f h2 ?_))⟩⟩
  rw [ef, cf]
  exact ⟨vf, nm_r e3 (br_f (nI_pos (by omega)) h)⟩
theorem dn_ypop {post : SY → Prop} {n tp p : Nat} (ht : tp < 32) (e1 : b_todo tp = nI p) (e2 : b_phase tp = nI 2)
    (h : wY_drop_32 post n (nI tp) g_known g_made g_living g_counted g_less g_depth g_begun g_given g_outcome g_isShort g_ran g_put g_ended b_ops b_as b_bs b_cs b_size b_lent b_need b_plans b_keep b_value b_fields b_alive b_method b_pc b_variable b_loan b_outs b_ends b_todo (upd b_phase tp (nI 3))) : wY_drop_32 post (n + 1) (nI (tp + 1)) g_known g_made g_living g_counted g_less g_depth g_begun g_given g_outcome g_isShort g_ran g_put g_ended b_ops b_as b_bs b_cs b_size b_lent b_need b_plans b_keep b_value b_fields b_alive b_method b_pc b_variable b_loan b_outs b_ends b_todo b_phase := by
  have ct : (nI tp).toNatClampNeg = tp := nI_clamp (by omega)
  have vt : vp_in (nI tp) 32 := vp_in_nI (by omega) (by omega)
  have hn : ¬ nI (tp + 1) ≤ 0 := nI_nle (by omega) (by omega)
  rw [wY_drop_32]
  refine br_f hn ?_
  rw [nI_pred, ct]
  exact ⟨vt, nm_r e1 ⟨vt, vt, nm_r (e' := upd b_phase tp (nI 3)) (by rw [e2, nI_1]) (nm_r e2 (br_t rfl (nm_r (pk_m1 tp) h)))⟩⟩
theorem dn_yf0 {post : SY → Prop} {n tp p s : Nat} (ht : tp < 32) (hp : p < 301) (hs : s < 2) (e1 : b_todo tp = nI p) (e2 : b_phase tp = nI s) (e3 : b_fields (3 * p + s) = 0)
    (h : wY_drop_32 post n (nI (tp + 1)) g_known g_made g_living g_counted g_less g_depth g_begun g_given g_outcome g_isShort g_ran g_put g_ended b_ops b_as b_bs b_cs b_size b_lent b_need b_plans b_keep b_value b_fields b_alive b_method b_pc b_variable b_loan b_outs b_ends b_todo (upd b_phase tp (nI (s + 1)))) : wY_drop_32 post (n + 1) (nI (tp + 1)) g_known g_made g_living g_counted g_less g_depth g_begun g_given g_outcome g_isShort g_ran g_put g_ended b_ops b_as b_bs b_cs b_size b_lent b_need b_plans b_keep b_value b_fields b_alive b_method b_pc b_variable b_loan b_outs b_ends b_todo b_phase := by
  have ct : (nI tp).toNatClampNeg = tp := nI_clamp (by omega)
  have vt : vp_in (nI tp) 32 := vp_in_nI (by omega) (by omega)
  have ef : 3 * nI p + nI s = nI (3 * p + s) := tl_3 p s
  have cf : (nI (3 * p + s)).toNatClampNeg = 3 * p + s := nI_clamp (by omega)
  have vf : vp_in (nI (3 * p + s)) 903 := vp_in_nI (by omega) (by omega)
  have hn : ¬ nI (tp + 1) ≤ 0 := nI_nle (by omega) (by omega)
  have h2 : ¬ nI s = 2 := fun z => by have := tl_inj (b := 2) z (by omega) (by omega); omega
  rw [wY_drop_32]
  refine br_f hn ?_
  rw [nI_pred, ct]
  refine ⟨vt, nm_r e1 ⟨vt, vt, nm_r (e' := upd b_phase tp (nI (s + 1))) (by rw [e2, nI_1]) (nm_r e2 (br_f h2 ?_))⟩⟩
  rw [ef, cf]
  exact ⟨vf, nm_r e3 ⟨vf, nm_r (e' := b_fields) (tl_uid e3) (br_t rfl h)⟩⟩
theorem dn_yf1 {post : SY → Prop} {n tp p s t : Nat} (ht : tp < 32) (hp : p < 301) (hs : s < 2) (ht1 : 1 ≤ t) (ht3 : t < 2 ^ 31) (e1 : b_todo tp = nI p) (e2 : b_phase tp = nI s) (e3 : b_fields (3 * p + s) = nI t)
    (h : wpY_countOf (fun r => ((r = 0 → wpY_end (fun r u => match u with | (g_known, g_made, g_living, g_counted, g_less, g_depth, g_begun, g_given, g_outcome, g_isShort, g_ran, g_put, g_ended, b_ops, b_as, b_bs, b_cs, b_size, b_lent, b_need, b_plans, b_keep, b_value, b_fields, b_alive, b_method, b_pc, b_variable, b_loan, b_outs, b_ends, b_todo, b_phase) => wY_drop_32 post n r g_known g_made g_living g_counted g_less g_depth g_begun g_given g_outcome g_isShort g_ran g_put g_ended b_ops b_as b_bs b_cs b_size b_lent b_need b_plans b_keep b_value b_fields b_alive b_method b_pc b_variable b_loan b_outs b_ends b_todo b_phase) (g_known, g_made, g_living, g_counted, g_less + 1, g_depth, g_begun, g_given, g_outcome, g_isShort, g_ran, g_put, g_ended, b_ops, b_as, b_bs, b_cs, b_size, b_lent, b_need, b_plans, b_keep, b_value, upd b_fields (3 * p + s) 0, b_alive, b_method, b_pc, b_variable, b_loan, b_outs, b_ends, b_todo, upd b_phase tp (nI (s + 1))) (nI t) (nI (tp + 1))) ∧ (¬ r = 0 → wY_drop_32 post n (nI (tp + 1)) g_known g_made g_living g_counted (g_less + 1) g_depth g_begun g_given g_outcome g_isShort g_ran g_put g_ended b_ops b_as b_bs b_cs b_size b_lent b_need b_plans b_keep b_value (upd b_fields (3 * p + s) 0) b_alive b_method b_pc b_variable b_loan b_outs b_ends b_todo (upd b_phase tp (nI (s + 1)))))) (g_known, g_made, g_living, g_counted, g_less + 1, g_depth, g_begun, g_given, g_outcome, g_isShort, g_ran, g_put, g_ended, b_ops, b_as, b_bs, b_cs, b_size, b_lent, b_need, b_plans, b_keep, b_value, upd b_fields (3 * p + s) 0, b_alive, b_method, b_pc, b_variable, b_loan, b_outs, b_ends, b_todo, upd b_phase tp (nI (s + 1))) (nI t)) : wY_drop_32 post (n + 1) (nI (tp + 1)) g_known g_made g_living g_counted g_less g_depth g_begun g_given g_outcome g_isShort g_ran g_put g_ended b_ops b_as b_bs b_cs b_size b_lent b_need b_plans b_keep b_value b_fields b_alive b_method b_pc b_variable b_loan b_outs b_ends b_todo b_phase := by
  have ct : (nI tp).toNatClampNeg = tp := nI_clamp (by omega)
  have vt : vp_in (nI tp) 32 := vp_in_nI (by omega) (by omega)
  have ef : 3 * nI p + nI s = nI (3 * p + s) := tl_3 p s
  have cf : (nI (3 * p + s)).toNatClampNeg = 3 * p + s := nI_clamp (by omega)
  have vf : vp_in (nI (3 * p + s)) 903 := vp_in_nI (by omega) (by omega)
  have hn : ¬ nI (tp + 1) ≤ 0 := nI_nle (by omega) (by omega)
  have h2 : ¬ nI s = 2 := fun z => by have := tl_inj (b := 2) z (by omega) (by omega); omega
  rw [wY_drop_32]
  refine br_f hn ?_
  rw [nI_pred, ct]
  refine ⟨vt, nm_r e1 ⟨vt, vt, nm_r (e' := upd b_phase tp (nI (s + 1))) (by rw [e2, nI_1]) (nm_r e2 (br_f h2 ?_))⟩⟩
  rw [ef, cf]
  exact ⟨vf, nm_r e3 ⟨vf, nm_e (br_f (nI_ne0 ht1 ht3) (nm_e h))⟩⟩
end
end
section
section
variable {f_known f_depth f_brief f_outCount f_endCount f_ups f_downs f_steps f_made f_alive f_gift f_ended f_stopped : Int32} {a_length a_lends a_ops a_firsts a_seconds a_thirds a_need a_loan a_hands a_keeps a_come a_numbers a_ints a_counts a_fields a_ending a_stage a_fMethod a_fLine a_held a_lent a_outs a_ends : Nat → Int32}
variable {g_known g_made g_living g_counted g_less g_depth g_begun g_given g_outcome g_isShort g_ran g_put g_ended : Int32} {b_ops b_as b_bs b_cs b_size b_lent b_need b_plans b_keep b_value b_fields b_alive b_method b_pc b_variable b_loan b_outs b_ends b_todo b_phase : Nat → Int32}
set_option maxHeartbeats 2000000 in
theorem dn_loop {M D : Nat} (hD : D ≤ 6) : ∀ (μ tp E L : Nat) (f_downs : Int32) (a_numbers a_counts a_fields a_ending a_stage a_ends b_fields b_alive b_todo b_phase : Nat → Int32),
    HR M E L tp (hp_RC g_given b_variable b_loan D) a_numbers a_ints a_counts a_fields a_ending a_stage b_value b_fields b_alive b_todo b_phase → 4 * L + dn_ms a_stage tp ≤ μ →
    ∃ (E' L' : Nat) (f_downs' : Int32) (a_numbers' a_counts' a_fields' a_ending' a_stage' a_ends' b_fields' b_alive' b_todo' b_phase' : Nat → Int32),
      HR M E' L' 0 (hp_RC g_given b_variable b_loan D) a_numbers' a_ints a_counts' a_fields' a_ending' a_stage' b_value b_fields' b_alive' b_todo' b_phase' ∧ hp_HM M a_numbers b_fields b_alive a_numbers' b_fields' b_alive' ∧
      (∀ (post : SX → Prop) n, μ < n → post (f_known, f_depth, f_brief, f_outCount, nI E', f_ups, f_downs', f_steps, f_made, nI L', f_gift, f_ended, f_stopped, a_length, a_lends, a_ops, a_firsts, a_seconds, a_thirds, a_need, a_loan, a_hands, a_keeps, a_come, a_numbers', a_ints, a_counts', a_fields', a_ending', a_stage', a_fMethod, a_fLine, a_held, a_lent, a_outs, a_ends') → wX_down_13 post n (nI tp) f_known f_depth f_brief f_outCount (nI E) f_ups f_downs f_steps f_made (nI L) f_gift f_ended f_stopped a_length a_lends a_ops a_firsts a_seconds a_thirds a_need a_loan a_hands a_keeps a_come a_numbers a_ints a_counts a_fields a_ending a_stage a_fMethod a_fLine a_held a_lent a_outs a_ends) ∧
      (∀ (post : SY → Prop) n, μ < n → post (g_known, nI M, nI L', g_counted, f_downs', nI D, g_begun, g_given, g_outcome, g_isShort, g_ran, g_put, nI E', b_ops, b_as, b_bs, b_cs, b_size, b_lent, b_need, b_plans, b_keep, b_value, b_fields', b_alive', b_method, b_pc, b_variable, b_loan, b_outs, a_ends', b_todo', b_phase') → wY_drop_32 post n (nI tp) g_known (nI M) (nI L) g_counted f_downs (nI D) g_begun g_given g_outcome g_isShort g_ran g_put (nI E) b_ops b_as b_bs b_cs b_size b_lent b_need b_plans b_keep b_value b_fields b_alive b_method b_pc b_variable b_loan b_outs a_ends b_todo b_phase) := by
  intro μ
  induction μ with
  | zero =>
    intro tp E L f_downs a_numbers a_counts a_fields a_ending a_stage a_ends b_fields b_alive b_todo b_phase H hm
    cases tp with
    | zero =>
      refine ⟨E, L, f_downs, a_numbers, a_counts, a_fields, a_ending, a_stage, a_ends, b_fields, b_alive, b_todo, b_phase, H, hp_HM_r, fun post n hn hp => ?_, fun post n hn hp => ?_⟩
      · obtain ⟨m, rfl⟩ : ∃ m, n = m + 1 := ⟨n - 1, by omega⟩
        rw [wX_down_13]
        exact br_t (by decide : nI 0 ≤ 0) hp
      · obtain ⟨m, rfl⟩ : ∃ m, n = m + 1 := ⟨n - 1, by omega⟩
        rw [wY_drop_32]
        exact br_t (by decide : nI 0 ≤ 0) hp
    | succ tp =>
      obtain ⟨p, nn, s, hS⟩ := H.2.2.2.2.2.2.2.2.2.1 tp (by omega)
      have := dn_ms_s (st := a_stage) hS.2.2.2.2.2.2.1 (by have := hS.2.2.2.1; omega)
      have := hS.2.2.2.1
      omega
  | succ μ ih =>
    intro tp E L f_downs a_numbers a_counts a_fields a_ending a_stage a_ends b_fields b_alive b_todo b_phase H hm
    cases tp with
    | zero =>
      refine ⟨E, L, f_downs, a_numbers, a_counts, a_fields, a_ending, a_stage, a_ends, b_fields, b_alive, b_todo, b_phase, H, hp_HM_r, fun post n hn hp => ?_, fun post n hn hp => ?_⟩
      · obtain ⟨m, rfl⟩ : ∃ m, n = m + 1 := ⟨n - 1, by omega⟩
        rw [wX_down_13]
        exact br_t (by decide : nI 0 ≤ 0) hp
      · obtain ⟨m, rfl⟩ : ∃ m, n = m + 1 := ⟨n - 1, by omega⟩
        rw [wY_drop_32]
        exact br_t (by decide : nI 0 ≤ 0) hp
    | succ tp =>
      obtain ⟨p, nn, s, hS⟩ := H.2.2.2.2.2.2.2.2.2.1 tp (by omega)
      have hS' := hS
      obtain ⟨hp, hn1, hnM, hs, e1, e2, e3, e4, e5, e6, e7, e8⟩ := hS'
      obtain ⟨hL24, hEL, hM⟩ := hp_L24 H
      have hms := dn_ms_s (st := a_stage) e3 (by omega)
      by_cases hs2 : s = 2
      · subst hs2
        obtain ⟨H1, hm1⟩ := hp_pop (st' := upd a_stage tp (nI 3)) (ph' := upd b_phase tp (nI 3)) hS (fun k hk => ⟨tl_un (by omega), tl_un (by omega)⟩) H
        obtain ⟨E', L', f_downs', a_numbers', a_counts', a_fields', a_ending', a_stage', a_ends', b_fields', b_alive', b_todo', b_phase', H2, hm2, hX, hY⟩ := ih tp E L f_downs (upd a_numbers p 0) a_counts a_fields a_ending (upd a_stage tp (nI 3)) a_ends b_fields b_alive b_todo (upd b_phase tp (nI 3)) H1 (by rw [dn_ms_u]; omega)
        refine ⟨E', L', f_downs', a_numbers', a_counts', a_fields', a_ending', a_stage', a_ends', b_fields', b_alive', b_todo', b_phase', H2, hp_HM_t hm1 hm2, fun post n hn hpo => ?_, fun post n hn hpo => ?_⟩
        · obtain ⟨m, rfl⟩ : ∃ m, n = m + 1 := ⟨n - 1, by omega⟩
          exact dn_xpop (by omega) hp e1 e3 (hX post m (by omega) hpo)
        · obtain ⟨m, rfl⟩ : ∃ m, n = m + 1 := ⟨n - 1, by omega⟩
          exact dn_ypop (by omega) e2 e4 (hY post m (by omega) hpo)
      · have hs1 : s < 2 := by omega
        have hms' : dn_ms (upd a_stage tp (nI (s + 1))) (tp + 1) = dn_ms a_stage tp + (3 - (s + 1)) := by
          rw [dn_ms_s (s := s + 1) tl_us (by omega), dn_ms_u]
        rcases e8 s (Nat.le_refl s) hs1 with ⟨wx, wy⟩ | ⟨q, t, hq, ht1, htM, ex, ey, hw⟩
        · have H1 := hp_fld0 hs1 hS H
          obtain ⟨E', L', f_downs', a_numbers', a_counts', a_fields', a_ending', a_stage', a_ends', b_fields', b_alive', b_todo', b_phase', H2, hm2, hX, hY⟩ := ih (tp + 1) E L f_downs a_numbers a_counts a_fields a_ending (upd a_stage tp (nI (s + 1))) a_ends b_fields b_alive b_todo (upd b_phase tp (nI (s + 1))) H1 (by rw [hms']; omega)
          refine ⟨E', L', f_downs', a_numbers', a_counts', a_fields', a_ending', a_stage', a_ends', b_fields', b_alive', b_todo', b_phase', H2, hm2, fun post n hn hpo => ?_, fun post n hn hpo => ?_⟩
          · obtain ⟨m, rfl⟩ : ∃ m, n = m + 1 := ⟨n - 1, by omega⟩
            exact dn_xf0 (by omega) hp hs1 e1 e3 wx (hX post m (by omega) hpo)
          · obtain ⟨m, rfl⟩ : ∃ m, n = m + 1 := ⟨n - 1, by omega⟩
            exact dn_yf0 (by omega) (by omega) hs1 e2 e4 wy (hY post m (by omega) hpo)
        · obtain ⟨H1, hnq, hal, hm1⟩ := hp_fld1 hs1 ht1 htM hq ex ey hS H
          have hco : a_counts q = nI (hp_RC g_given b_variable b_loan D t + hp_dl (nI t) t + hp_FC (upd b_fields (3 * nn + s) 0) M t) := H1.2.2.2.2.1 q t hq ht1 htM hnq
          rw [hp_dl_s] at hco
          have hb1 := hp_RC_le g_given b_variable b_loan D t
          have hb2 := hp_FC_le (upd b_fields (3 * nn + s) 0) M t
          by_cases h0 : hp_RC g_given b_variable b_loan D t + hp_FC (upd b_fields (3 * nn + s) 0) M t = 0
          · have hnu : ∀ p, p < 24 → ∃ n, n < 2 ^ 31 ∧ a_numbers p = nI n := fun p hp => by
              obtain ⟨n, hn, e⟩ := H.2.1 p hp
              exact ⟨n, by omega, e⟩
            have hco1 : a_counts q = nI 1 := by
              rw [hco]
              exact congrArg nI (by omega)
            have hL1 : 1 ≤ L := by
              have k := H.2.2.2.2.2.2.2.2.2.2.1
              have k2 := sm_ge (f := hp_lv a_numbers b_alive) hq
              rw [hp_lv1 hnq ht1 (by omega) hal] at k2
              omega
            obtain ⟨fi', hf, hXl⟩ := dn_le0  (f_known := f_known) (f_depth := f_depth) (f_brief := f_brief) (f_outCount := f_outCount) (f_ups := f_ups) (f_downs := f_downs) (f_steps := f_steps) (f_made := f_made) (f_gift := f_gift) (f_ended := f_ended) (f_stopped := f_stopped) (a_length := a_length) (a_lends := a_lends) (a_ops := a_ops) (a_firsts := a_firsts) (a_seconds := a_seconds) (a_thirds := a_thirds) (a_need := a_need) (a_loan := a_loan) (a_hands := a_hands) (a_keeps := a_keeps) (a_come := a_come) (a_ints := a_ints) (a_fields := a_fields) (a_ending := a_ending) (a_stage := upd a_stage tp (nI (s + 1))) (a_fMethod := a_fMethod) (a_fLine := a_fLine) (a_held := a_held) (a_lent := a_lent) (a_outs := a_outs) (a_ends := a_ends) (o := q) (tp := tp + 1) (E := E) (L := L - 1) hq (by omega) (by omega) hnu hco1
            obtain ⟨bf', hb, hYl⟩ := dn_end (g_known := g_known) (g_counted := g_counted) (g_less := f_downs + 1) (g_depth := nI D) (g_begun := g_begun) (g_given := g_given) (g_outcome := g_outcome) (g_isShort := g_isShort) (g_ran := g_ran) (g_put := g_put) (b_ops := b_ops) (b_as := b_as) (b_bs := b_bs) (b_cs := b_cs) (b_size := b_size) (b_lent := b_lent) (b_need := b_need) (b_plans := b_plans) (b_keep := b_keep) (b_value := b_value) (b_fields := upd b_fields (3 * nn + s) 0) (b_alive := b_alive) (b_method := b_method) (b_pc := b_pc) (b_variable := b_variable) (b_loan := b_loan) (b_outs := b_outs) (b_ends := a_ends) (b_todo := b_todo) (b_phase := upd b_phase tp (nI (s + 1))) (t := t) (tp := tp + 1) (M := M) (E := E) (L := L - 1) hM (by omega) (by omega) (by omega)
            obtain ⟨L', hL', hT, H2, hm2⟩ := hp_end hq ht1 htM hnq hal h0 hf hb H1
            have eL : L - 1 = L' := by omega
            have eL2 : L = L' + 1 := hL'
            rw [eL] at hXl hYl
            have hms2 : dn_ms (upd (upd a_stage tp (nI (s + 1))) (tp + 1) 0) (tp + 1 + 1) = dn_ms a_stage tp + (3 - (s + 1)) + 3 := by
              rw [dn_ms_s (s := 0) (by rw [tl_us, nI_0]) (by omega), dn_ms_u, hms']
            obtain ⟨E', L2, f_downs', a_numbers', a_counts', a_fields', a_ending', a_stage', a_ends', b_fields', b_alive', b_todo', b_phase', H3, hm3, hX, hY⟩ := ih (tp + 1 + 1) (E + 1) L' (f_downs + 1) a_numbers (upd a_counts q (a_counts q - 1)) fi' (upd a_ending (tp + 1) (nI q)) (upd (upd a_stage tp (nI (s + 1))) (tp + 1) 0) (upd a_ends E (nI t)) bf' (upd b_alive t 0) (upd b_todo (tp + 1) (nI t)) (upd (upd b_phase tp (nI (s + 1))) (tp + 1) 0) H2 (by rw [hms2]; omega)
            refine ⟨E', L2, f_downs', a_numbers', a_counts', a_fields', a_ending', a_stage', a_ends', b_fields', b_alive', b_todo', b_phase', H3, hp_HM_t hm1 (hp_HM_t hm2 hm3), fun post n hn hpo => ?_, fun post n hn hpo => ?_⟩
            · obtain ⟨m, rfl⟩ : ∃ m, n = m + 1 := ⟨n - 1, by omega⟩
              rw [hnq] at hXl
              rw [eL2]
              exact dn_xf1 (by omega) hp hs1 hq e1 e3 ex (hXl _ (hX post m (by omega) hpo))
            · obtain ⟨m, rfl⟩ : ∃ m, n = m + 1 := ⟨n - 1, by omega⟩
              rw [eL2]
              exact dn_yf1 (by omega) (by omega) hs1 ht1 (by omega) e2 e4 ey (yc hM hD (br_t (by rw [h0]; rfl) (hYl _ (hY post m (by omega) hpo))))
          · have H2 := hp_dec hq ht1 htM hnq (by omega) H1
            obtain ⟨E', L2, f_downs', a_numbers', a_counts', a_fields', a_ending', a_stage', a_ends', b_fields', b_alive', b_todo', b_phase', H3, hm3, hX, hY⟩ := ih (tp + 1) E L (f_downs + 1) a_numbers (upd a_counts q (a_counts q - 1)) a_fields a_ending (upd a_stage tp (nI (s + 1))) a_ends (upd b_fields (3 * nn + s) 0) b_alive b_todo (upd b_phase tp (nI (s + 1))) H2 (by rw [hms']; omega)
            refine ⟨E', L2, f_downs', a_numbers', a_counts', a_fields', a_ending', a_stage', a_ends', b_fields', b_alive', b_todo', b_phase', H3, hp_HM_t hm1 hm3, fun post n hn hpo => ?_, fun post n hn hpo => ?_⟩
            · obtain ⟨m, rfl⟩ : ∃ m, n = m + 1 := ⟨n - 1, by omega⟩
              exact dn_xf1 (by omega) hp hs1 hq e1 e3 ex (dn_le1 (k := hp_RC g_given b_variable b_loan D t + hp_FC (upd b_fields (3 * nn + s) 0) M t) hq (by rw [hco]; exact congrArg nI (by omega)) (by omega) (by omega) (hX post m (by omega) hpo))
            · obtain ⟨m, rfl⟩ : ∃ m, n = m + 1 := ⟨n - 1, by omega⟩
              exact dn_yf1 (by omega) (by omega) hs1 ht1 (by omega) e2 e4 ey (yc hM hD (br_f (nI_ne0 (by omega) (by omega)) (hY post m (by omega) hpo)))
/-- a counted reference goes: X's down and Y's drop -/
theorem dn {M D E L o t : Nat} (hD : D ≤ 6) (ho : o < 24) (ht1 : 1 ≤ t) (htM : t ≤ M) (hno : a_numbers o = nI t)
    (H : HR M E L 0 (fun n => hp_RC g_given b_variable b_loan D n + hp_dl (nI t) n) a_numbers a_ints a_counts a_fields a_ending a_stage b_value b_fields b_alive b_todo b_phase) :
    ∃ (E' L' : Nat) (f_downs' : Int32) (a_numbers' a_counts' a_fields' a_ending' a_stage' a_ends' b_fields' b_alive' b_todo' b_phase' : Nat → Int32),
      HR M E' L' 0 (hp_RC g_given b_variable b_loan D) a_numbers' a_ints a_counts' a_fields' a_ending' a_stage' b_value b_fields' b_alive' b_todo' b_phase' ∧ hp_HM M a_numbers b_fields b_alive a_numbers' b_fields' b_alive' ∧
      (∀ (post : SX → Prop), post (f_known, f_depth, f_brief, f_outCount, nI E', f_ups, f_downs', f_steps, f_made, nI L', f_gift, f_ended, f_stopped, a_length, a_lends, a_ops, a_firsts, a_seconds, a_thirds, a_need, a_loan, a_hands, a_keeps, a_come, a_numbers', a_ints, a_counts', a_fields', a_ending', a_stage', a_fMethod, a_fLine, a_held, a_lent, a_outs, a_ends') → wpX_down post (f_known, f_depth, f_brief, f_outCount, nI E, f_ups, f_downs, f_steps, f_made, nI L, f_gift, f_ended, f_stopped, a_length, a_lends, a_ops, a_firsts, a_seconds, a_thirds, a_need, a_loan, a_hands, a_keeps, a_come, a_numbers, a_ints, a_counts, a_fields, a_ending, a_stage, a_fMethod, a_fLine, a_held, a_lent, a_outs, a_ends) (nI o)) ∧
      (∀ (post : SY → Prop), post (g_known, nI M, nI L', g_counted, f_downs', nI D, g_begun, g_given, g_outcome, g_isShort, g_ran, g_put, nI E', b_ops, b_as, b_bs, b_cs, b_size, b_lent, b_need, b_plans, b_keep, b_value, b_fields', b_alive', b_method, b_pc, b_variable, b_loan, b_outs, a_ends', b_todo', b_phase') → wpY_drop post (g_known, nI M, nI L, g_counted, f_downs, nI D, g_begun, g_given, g_outcome, g_isShort, g_ran, g_put, nI E, b_ops, b_as, b_bs, b_cs, b_size, b_lent, b_need, b_plans, b_keep, b_value, b_fields, b_alive, b_method, b_pc, b_variable, b_loan, b_outs, a_ends, b_todo, b_phase) (nI t)) := by
  obtain ⟨hL24, hEL, hM⟩ := hp_L24 H
  have hal : b_alive t ≠ 0 := (hp_al ht1 (by omega) H (show 0 < hp_RC g_given b_variable b_loan D t + hp_dl (nI t) t + hp_FC b_fields M t by rw [hp_dl_s]; omega)).2
  have hco : a_counts o = nI (hp_RC g_given b_variable b_loan D t + hp_dl (nI t) t + hp_FC b_fields M t) := H.2.2.2.2.1 o t ho ht1 htM hno
  rw [hp_dl_s] at hco
  have hb1 := hp_RC_le g_given b_variable b_loan D t
  have hb2 := hp_FC_le b_fields M t
  by_cases h0 : hp_RC g_given b_variable b_loan D t + hp_FC b_fields M t = 0
  · have hnu : ∀ p, p < 24 → ∃ n, n < 2 ^ 31 ∧ a_numbers p = nI n := fun p hp => by
      obtain ⟨n, hn, e⟩ := H.2.1 p hp
      exact ⟨n, by omega, e⟩
    have hco1 : a_counts o = nI 1 := by
      rw [hco]
      exact congrArg nI (by omega)
    have hL1 : 1 ≤ L := by
      have k := H.2.2.2.2.2.2.2.2.2.2.1
      have k2 := sm_ge (f := hp_lv a_numbers b_alive) ho
      rw [hp_lv1 hno ht1 (by omega) hal] at k2
      omega
    obtain ⟨fi', hf, hXl⟩ := dn_le0 (f_known := f_known) (f_depth := f_depth) (f_brief := f_brief) (f_outCount := f_outCount) (f_ups := f_ups) (f_downs := f_downs) (f_steps := f_steps) (f_made := f_made) (f_gift := f_gift) (f_ended := f_ended) (f_stopped := f_stopped) (a_length := a_length) (a_lends := a_lends) (a_ops := a_ops) (a_firsts := a_firsts) (a_seconds := a_seconds) (a_thirds := a_thirds) (a_need := a_need) (a_loan := a_loan) (a_hands := a_hands) (a_keeps := a_keeps) (a_come := a_come) (a_ints := a_ints) (a_fields := a_fields) (a_ending := a_ending) (a_stage := a_stage) (a_fMethod := a_fMethod) (a_fLine := a_fLine) (a_held := a_held) (a_lent := a_lent) (a_outs := a_outs) (a_ends := a_ends) (o := o) (tp := 0) (E := E) (L := L - 1) ho (by omega) (by omega) hnu hco1
    obtain ⟨bf', hb, hYl⟩ := dn_end (g_known := g_known) (g_counted := g_counted) (g_less := f_downs + 1) (g_depth := nI D) (g_begun := g_begun) (g_given := g_given) (g_outcome := g_outcome) (g_isShort := g_isShort) (g_ran := g_ran) (g_put := g_put) (b_ops := b_ops) (b_as := b_as) (b_bs := b_bs) (b_cs := b_cs) (b_size := b_size) (b_lent := b_lent) (b_need := b_need) (b_plans := b_plans) (b_keep := b_keep) (b_value := b_value) (b_fields := b_fields) (b_alive := b_alive) (b_method := b_method) (b_pc := b_pc) (b_variable := b_variable) (b_loan := b_loan) (b_outs := b_outs) (b_ends := a_ends) (b_todo := b_todo) (b_phase := b_phase) (t := t) (tp := 0) (M := M) (E := E) (L := L - 1) hM (by omega) (by omega) (by omega)
    obtain ⟨L', hL', hT, H2, hm2⟩ := hp_end ho ht1 htM hno hal h0 hf hb H
    have eL : L - 1 = L' := by omega
    have eL2 : L = L' + 1 := hL'
    rw [eL] at hXl hYl
    obtain ⟨E', L2, f_downs', a_numbers', a_counts', a_fields', a_ending', a_stage', a_ends', b_fields', b_alive', b_todo', b_phase', H3, hm3, hX, hY⟩ := dn_loop  (f_known := f_known) (f_depth := f_depth) (f_brief := f_brief) (f_outCount := f_outCount) (f_ups := f_ups) (f_steps := f_steps) (f_made := f_made) (f_gift := f_gift) (f_ended := f_ended) (f_stopped := f_stopped) (a_length := a_length) (a_lends := a_lends) (a_ops := a_ops) (a_firsts := a_firsts) (a_seconds := a_seconds) (a_thirds := a_thirds) (a_need := a_need) (a_loan := a_loan) (a_hands := a_hands) (a_keeps := a_keeps) (a_come := a_come) (a_fMethod := a_fMethod) (a_fLine := a_fLine) (a_held := a_held) (a_lent := a_lent) (a_outs := a_outs) (g_known := g_known) (g_counted := g_counted) (g_begun := g_begun) (g_outcome := g_outcome) (g_isShort := g_isShort) (g_ran := g_ran) (g_put := g_put) (b_ops := b_ops) (b_as := b_as) (b_bs := b_bs) (b_cs := b_cs) (b_size := b_size) (b_lent := b_lent) (b_need := b_need) (b_plans := b_plans) (b_keep := b_keep) (b_method := b_method) (b_pc := b_pc) (b_outs := b_outs) hD (4 * L' + dn_ms (upd a_stage 0 0) 1) (0 + 1) (E + 1) L' (f_downs + 1) a_numbers (upd a_counts o (a_counts o - 1)) fi' (upd a_ending 0 (nI o)) (upd a_stage 0 0) (upd a_ends E (nI t)) bf' (upd b_alive t 0) (upd b_todo 0 (nI t)) (upd b_phase 0 0) H2 (Nat.le_refl _)
    refine ⟨E', L2, f_downs', a_numbers', a_counts', a_fields', a_ending', a_stage', a_ends', b_fields', b_alive', b_todo', b_phase', H3, hp_HM_t hm2 hm3, fun post hpo => ?_, fun post hpo => ?_⟩
    · rw [hno] at hXl
      rw [eL2]
      exact br_f (nI_pos (by omega)) (hXl _ ⟨_, hX post _ (Nat.lt_succ_self _) hpo⟩)
    · rw [eL2]
      exact br_f (nI_ne0 ht1 (by omega)) (nm_e (yc hM hD (br_t (by rw [h0]; rfl) (hYl _ ⟨_, hY post _ (Nat.lt_succ_self _) hpo⟩))))
  · have H2 := hp_dec ho ht1 htM hno (by omega) H
    refine ⟨E, L, f_downs + 1, a_numbers, upd a_counts o (a_counts o - 1), a_fields, a_ending, a_stage, a_ends, b_fields, b_alive, b_todo, b_phase, H2, hp_HM_r, fun post hpo => ?_, fun post hpo => ?_⟩
    · exact br_f (nI_pos (by omega)) (dn_le1 (k := hp_RC g_given b_variable b_loan D t + hp_FC b_fields M t) ho (by rw [hco]; exact congrArg nI (by omega)) (by omega) (by omega) ⟨1, br_t (by decide : (0 : Int32) ≤ 0) hpo⟩)
    · exact br_f (nI_ne0 ht1 (by omega)) (nm_e (yc hM hD (br_f (nI_ne0 (by omega) (by omega)) ⟨1, br_t (by decide : (0 : Int32) ≤ 0) hpo⟩)))
end
end
section
section
variable {f_known f_depth f_brief f_outCount f_endCount f_ups f_downs f_steps f_made f_alive f_gift f_ended f_stopped : Int32} {a_length a_lends a_ops a_firsts a_seconds a_thirds a_need a_loan a_hands a_keeps a_come a_numbers a_ints a_counts a_fields a_ending a_stage a_fMethod a_fLine a_held a_lent a_outs a_ends : Nat → Int32}
variable {g_known g_made g_living g_counted g_less g_depth g_begun g_given g_outcome g_isShort g_ran g_put g_ended : Int32} {b_ops b_as b_bs b_cs b_size b_lent b_need b_plans b_keep b_value b_fields b_alive b_method b_pc b_variable b_loan b_outs b_ends b_todo b_phase : Nat → Int32}
/-! variables -/
def vr_V (D M : Nat) (nu al held lent var loan : Nat → Int32) : Prop :=
  (∀ w, w < 6 * D → hp_RW M nu al (held w) (var w) ∧ (var w ≠ 0 → (bt (lent (w / 6)) (w % 6) = true ↔ loan w ≠ 0))) ∧ ∀ d, d < D → mkL 6 (lent d)
theorem vr_m {D M : Nat} {nu bf al nu' bf' al' held lent var loan : Nat → Int32} (h : hp_HM M nu bf al nu' bf' al') (V : vr_V D M nu al held lent var loan) : vr_V D M nu' al' held lent var loan :=
  ⟨fun w hw => ⟨hp_RW_m h (V.1 w hw).1, (V.1 w hw).2⟩, V.2⟩
theorem vg_var {post : Int32 → Prop} {D v : Nat} (hD1 : 1 ≤ D) (hD : D ≤ 6) (hv : v < 6) (h : post (a_held (6 * (D - 1) + v))) : wpX_variable post (f_known, nI D, f_brief, f_outCount, f_endCount, f_ups, f_downs, f_steps, f_made, f_alive, f_gift, f_ended, f_stopped, a_length, a_lends, a_ops, a_firsts, a_seconds, a_thirds, a_need, a_loan, a_hands, a_keeps, a_come, a_numbers, a_ints, a_counts, a_fields, a_ending, a_stage, a_fMethod, a_fLine, a_held, a_lent, a_outs, a_ends) (nI v) := by
  have e : 6 * nI D - 6 + nI v = nI (6 * (D - 1) + v) := tl_var v hD1
  have c : (nI (6 * (D - 1) + v)).toNatClampNeg = 6 * (D - 1) + v := nI_clamp (by omega)
  refine And.intro ?_ ?_
  · rw [e]; exact vp_in_nI (by omega) (by omega)
  · rw [e, c]; exact h
theorem vg_has {post : Int32 → Prop} {x : Int32} {v : Nat} (hv : v < 32) (h : post (if bt x v = true then 1 else 0)) : wpX_has post x (nI v) := by
  cases e : bt x v
  · rw [e] at h
    exact br_f (fun z => by rw [bt_has1 x hv, e] at z; exact absurd z (by decide)) h
  · rw [e] at h
    exact br_t ((bt_has1 x hv).mpr e) h
theorem vg_isLent {post : Int32 → Prop} {D v : Nat} (hD1 : 1 ≤ D) (hD : D ≤ 6) (hv : v < 6) (h : post (if bt (a_lent (D - 1)) v = true then 1 else 0)) : wpX_isLent post (f_known, nI D, f_brief, f_outCount, f_endCount, f_ups, f_downs, f_steps, f_made, f_alive, f_gift, f_ended, f_stopped, a_length, a_lends, a_ops, a_firsts, a_seconds, a_thirds, a_need, a_loan, a_hands, a_keeps, a_come, a_numbers, a_ints, a_counts, a_fields, a_ending, a_stage, a_fMethod, a_fLine, a_held, a_lent, a_outs, a_ends) (nI v) := by
  have e : nI D - 1 = nI (D - 1) := tl_pred hD1
  have c : (nI (D - 1)).toNatClampNeg = D - 1 := nI_clamp (by omega)
  refine And.intro ?_ ?_
  · rw [e]; exact vp_in_nI (by omega) (by omega)
  · rw [e, c]
    refine vg_has (by omega) ?_
    cases z : bt (a_lent (D - 1)) v
    · rw [z] at h
      exact ⟨narrow_b0, h⟩
    · rw [z] at h
      exact ⟨narrow_b1, h⟩
/-- a variable's new mask of loans -/
def vr_le (x : Int32) (v : Nat) (lo : Int32) : Int32 := (x &&& (((1 : Int32) <<< (nI v &&& 31)) ^^^ (-1))) ||| (if lo = 0 then 0 else (1 : Int32) <<< (nI v &&& 31))
theorem vr_le_mk {x : Int32} {v : Nat} {lo : Int32} (hv : v < 6) (h : mkL 6 x) : mkL 6 (vr_le x v lo) := by
  refine mk_or (mk_and h) ?_
  split
  · exact mk_0 6
  · exact mk_one hv (by omega)
theorem vr_le_s {x : Int32} {v : Nat} {lo : Int32} (hv : v < 6) : bt (vr_le x v lo) v = true ↔ lo ≠ 0 := by
  unfold vr_le
  rw [b_or, bt_clr x (by omega)]
  by_cases z : lo = 0
  · rw [if_pos z, b_0]
    simp [z]
  · rw [if_neg z, bt_one (by omega)]
    simp [z]
theorem vr_le_n {x : Int32} {v k : Nat} {lo : Int32} (hv : v < 6) (hk : k ≠ v) : bt (vr_le x v lo) k = bt x k := by
  unfold vr_le
  rw [b_or, bt_clr x (by omega)]
  by_cases z : lo = 0
  · rw [if_pos z, b_0]
    simp [hk]
  · rw [if_neg z, bt_one (by omega)]
    simp [hk]
def vr_lo (lo y : Int32) : Int32 := if lo = 0 then 0 else if y = 0 then 0 else 1
theorem vr_up {D M v : Nat} {nu al held lent var loan : Nat → Int32} {x y lo : Int32} (hD1 : 1 ≤ D) (hv : v < 6) (hxy : hp_RW M nu al x y) (V : vr_V D M nu al held lent var loan) :
    vr_V D M nu al (upd held (6 * (D - 1) + v) x) (upd lent (D - 1) (vr_le (lent (D - 1)) v lo)) (upd var (6 * (D - 1) + v) y) (upd loan (6 * (D - 1) + v) (vr_lo lo y)) := by
  refine ⟨fun w hw => ?_, fun d hd => ?_⟩
  · by_cases z : w = 6 * (D - 1) + v
    · subst z
      rw [tl_us, tl_us, tl_us, show (6 * (D - 1) + v) / 6 = D - 1 by omega, show (6 * (D - 1) + v) % 6 = v by omega, tl_us]
      refine ⟨hxy, fun hy => ?_⟩
      rw [vr_le_s hv]
      unfold vr_lo
      by_cases z : lo = 0
      · rw [if_pos z]
        exact ⟨fun k => absurd z k, fun k => absurd rfl k⟩
      · rw [if_neg z, if_neg hy]
        exact ⟨fun _ => tl_n1, fun _ => z⟩
    · obtain ⟨k1, k2⟩ := V.1 w hw
      rw [tl_un z, tl_un z, tl_un z]
      refine ⟨k1, fun hy => ?_⟩
      by_cases zd : w / 6 = D - 1
      · rw [zd, tl_us, vr_le_n hv (show w % 6 ≠ v by omega), ← zd]
        exact k2 hy
      · rw [tl_un zd]
        exact k2 hy
  · by_cases z : d = D - 1
    · rw [z, tl_us]
      exact vr_le_mk hv (V.2 _ (by omega))
    · rw [tl_un z]
      exact V.2 d hd
theorem vg_nb {M : Nat} {nu al : Nat → Int32} {x y : Int32} (h : hp_RW M nu al x y) : vp_nar .byte x.toInt8.toInt32 = x := by
  rcases h with ⟨e, _⟩ | ⟨q, t, hq, _, _, e, _⟩
  · rw [e]; exact tl_nbm
  · rw [e]; exact tl_nb (by omega)
/-- X: a variable is set; what becomes of the old reference is asked by J -/
theorem vg_xlet {post : SX → Prop} {D M v : Nat} {nu al : Nat → Int32} {x y lo : Int32} (hD1 : 1 ≤ D) (hD : D ≤ 6) (hv : v < 6) (hxy : hp_RW M nu al x y) (hm : mkL 6 (a_lent (D - 1)))
    (h : ((if bt (a_lent (D - 1)) v = true then (1 : Int32) else 0) = 0 → wpX_down (fun u => match u with | (f_known, f_depth, f_brief, f_outCount, f_endCount, f_ups, f_downs, f_steps, f_made, f_alive, f_gift, f_ended, f_stopped, a_length, a_lends, a_ops, a_firsts, a_seconds, a_thirds, a_need, a_loan, a_hands, a_keeps, a_come, a_numbers, a_ints, a_counts, a_fields, a_ending, a_stage, a_fMethod, a_fLine, a_held, a_lent, a_outs, a_ends) => post (f_known, f_depth, f_brief, f_outCount, f_endCount, f_ups, f_downs, f_steps, f_made, f_alive, f_gift, f_ended, f_stopped, a_length, a_lends, a_ops, a_firsts, a_seconds, a_thirds, a_need, a_loan, a_hands, a_keeps, a_come, a_numbers, a_ints, a_counts, a_fields, a_ending, a_stage, a_fMethod, a_fLine, a_held, a_lent, a_outs, a_ends)) (f_known, nI D, f_brief, f_outCount, f_endCount, f_ups, f_downs, f_steps, f_made, f_alive, f_gift, f_ended, f_stopped, a_length, a_lends, a_ops, a_firsts, a_seconds, a_thirds, a_need, a_loan, a_hands, a_keeps, a_come, a_numbers, a_ints, a_counts, a_fields, a_ending, a_stage, a_fMethod, a_fLine, upd a_held (6 * (D - 1) + v) x, upd a_lent (D - 1) (vr_le (a_lent (D - 1)) v lo), a_outs, a_ends) (a_held (6 * (D - 1) + v))) ∧
      (¬ (if bt (a_lent (D - 1)) v = true then (1 : Int32) else 0) = 0 → post (f_known, nI D, f_brief, f_outCount, f_endCount, f_ups, f_downs, f_steps, f_made, f_alive, f_gift, f_ended, f_stopped, a_length, a_lends, a_ops, a_firsts, a_seconds, a_thirds, a_need, a_loan, a_hands, a_keeps, a_come, a_numbers, a_ints, a_counts, a_fields, a_ending, a_stage, a_fMethod, a_fLine, upd a_held (6 * (D - 1) + v) x, upd a_lent (D - 1) (vr_le (a_lent (D - 1)) v lo), a_outs, a_ends))) :
    wpX_let post (f_known, nI D, f_brief, f_outCount, f_endCount, f_ups, f_downs, f_steps, f_made, f_alive, f_gift, f_ended, f_stopped, a_length, a_lends, a_ops, a_firsts, a_seconds, a_thirds, a_need, a_loan, a_hands, a_keeps, a_come, a_numbers, a_ints, a_counts, a_fields, a_ending, a_stage, a_fMethod, a_fLine, a_held, a_lent, a_outs, a_ends) (nI v) x lo := by
  have e : 6 * nI D - 6 + nI v = nI (6 * (D - 1) + v) := tl_var v hD1
  have c : (nI (6 * (D - 1) + v)).toNatClampNeg = 6 * (D - 1) + v := nI_clamp (by omega)
  have vi : vp_in (nI (6 * (D - 1) + v)) 36 := vp_in_nI (by omega) (by omega)
  have ed : nI D - 1 = nI (D - 1) := tl_pred hD1
  have cd : (nI (D - 1)).toNatClampNeg = D - 1 := nI_clamp (by omega)
  have vd : vp_in (nI (D - 1)) 6 := vp_in_nI (by omega) (by omega)
  unfold wpX_let
  refine vg_var hD1 hD hv ?_
  refine vg_isLent hD1 hD hv ?_
  rw [e, ed, c, cd]
  refine ⟨vi, nm_r (e' := upd a_held (6 * (D - 1) + v) x) (by rw [vg_nb hxy]) ⟨vd, br_c (fun z => ?_) (fun z => ?_)⟩⟩
  · refine And.intro vd (nm_r (e' := upd a_lent (D - 1) (vr_le (a_lent (D - 1)) v lo)) ?_ h)
    have e2 : vr_le (a_lent (D - 1)) v lo = (a_lent (D - 1) &&& (((1 : Int32) <<< (nI v &&& 31)) ^^^ (-1))) ||| 0 := by unfold vr_le; rw [if_pos z]
    rw [cd, ← e2, mk_nb (vr_le_mk hv hm)]
  · refine And.intro vd (nm_r (e' := upd a_lent (D - 1) (vr_le (a_lent (D - 1)) v lo)) ?_ h)
    have e2 : vr_le (a_lent (D - 1)) v lo = (a_lent (D - 1) &&& (((1 : Int32) <<< (nI v &&& 31)) ^^^ (-1))) ||| ((1 : Int32) <<< (nI v &&& 31)) := by unfold vr_le; rw [if_neg z]
    rw [cd, ← e2, mk_nb (vr_le_mk hv hm)]
/-- Y: the same -/
theorem vg_yget {post : SY → Prop} {M w : Nat} {nu al : Nat → Int32} {x y lo : Int32} (hw : w < 36) (hxy : hp_RW M nu al x y) (hM : M ≤ 300)
    (h : wpY_drop (fun u => match u with | (g_known, g_made, g_living, g_counted, g_less, g_depth, g_begun, g_given, g_outcome, g_isShort, g_ran, g_put, g_ended, b_ops, b_as, b_bs, b_cs, b_size, b_lent, b_need, b_plans, b_keep, b_value, b_fields, b_alive, b_method, b_pc, b_variable, b_loan, b_outs, b_ends, b_todo, b_phase) => post (g_known, g_made, g_living, g_counted, g_less, g_depth, g_begun, g_given, g_outcome, g_isShort, g_ran, g_put, g_ended, b_ops, b_as, b_bs, b_cs, b_size, b_lent, b_need, b_plans, b_keep, b_value, b_fields, b_alive, b_method, b_pc, b_variable, b_loan, b_outs, b_ends, b_todo, b_phase)) (g_known, g_made, g_living, g_counted, g_less, g_depth, g_begun, g_given, g_outcome, g_isShort, g_ran, g_put, g_ended, b_ops, b_as, b_bs, b_cs, b_size, b_lent, b_need, b_plans, b_keep, b_value, b_fields, b_alive, b_method, b_pc, upd b_variable w y, upd b_loan w (vr_lo lo y), b_outs, b_ends, b_todo, b_phase) (if b_loan w = 0 then b_variable w else 0)) :
    wpY_get post (g_known, g_made, g_living, g_counted, g_less, g_depth, g_begun, g_given, g_outcome, g_isShort, g_ran, g_put, g_ended, b_ops, b_as, b_bs, b_cs, b_size, b_lent, b_need, b_plans, b_keep, b_value, b_fields, b_alive, b_method, b_pc, b_variable, b_loan, b_outs, b_ends, b_todo, b_phase) (nI w) y lo := by
  have c : (nI w).toNatClampNeg = w := nI_clamp (by omega)
  have vi : vp_in (nI w) 36 := vp_in_nI (by omega) (by omega)
  have K : ∀ z0 : Int32, z0 = (if b_loan w = 0 then b_variable w else 0) → wY_get_19 post (nI w) y lo z0 g_known g_made g_living g_counted g_less g_depth g_begun g_given g_outcome g_isShort g_ran g_put g_ended b_ops b_as b_bs b_cs b_size b_lent b_need b_plans b_keep b_value b_fields b_alive b_method b_pc b_variable b_loan b_outs b_ends b_todo b_phase := by
    intro z0 ez
    subst ez
    refine And.intro vi (nm_r (e' := upd b_variable w y) (by rw [c]) (br_c (fun z => ?_) (fun z => br_c (fun q => ?_) (fun q => ?_))))
    · refine And.intro vi (nm_r (e' := upd b_loan w (vr_lo lo y)) ?_ h)
      unfold vr_lo
      rw [c, if_pos z, tl_nz0]
    · have hy : y = 0 := by
        rcases hxy with ⟨_, e⟩ | ⟨_, t, _, h1, hM', _, e, _⟩
        · exact e
        · rw [e] at q
          exact absurd q (nI_nle h1 (by omega))
      refine And.intro vi (nm_r (e' := upd b_loan w (vr_lo lo y)) ?_ h)
      unfold vr_lo
      rw [c, if_neg z, if_pos hy, tl_nz0]
    · have hy : y ≠ 0 := fun e => q (by rw [e]; decide)
      refine And.intro vi (nm_r (e' := upd b_loan w (vr_lo lo y)) ?_ h)
      unfold vr_lo
      rw [c, if_neg z, if_neg hy, tl_nz1]
  refine And.intro vi ?_
  rw [c]
  exact br_c (fun z => ⟨vi, K _ (by rw [if_pos z])⟩) (fun z => K _ (by rw [if_neg z]))
/-- a variable is set on both sides -/
theorem vg_let {M D E L v : Nat} {x y lo : Int32} (hD1 : 1 ≤ D) (hD : D ≤ 6) (hv : v < 6) (hxy : hp_RW M a_numbers b_alive x y) (V : vr_V D M a_numbers b_alive a_held a_lent b_variable b_loan)
    (H : HR M E L 0 (fun n => hp_RC g_given b_variable b_loan D n + (if lo = 0 then hp_dl y n else 0)) a_numbers a_ints a_counts a_fields a_ending a_stage b_value b_fields b_alive b_todo b_phase) :
    ∃ (E' L' : Nat) (f_downs' : Int32) (a_numbers' a_counts' a_fields' a_ending' a_stage' a_ends' b_fields' b_alive' b_todo' b_phase' : Nat → Int32),
      HR M E' L' 0 (hp_RC g_given (upd b_variable (6 * (D - 1) + v) y) (upd b_loan (6 * (D - 1) + v) (vr_lo lo y)) D) a_numbers' a_ints a_counts' a_fields' a_ending' a_stage' b_value b_fields' b_alive' b_todo' b_phase' ∧ hp_HM M a_numbers b_fields b_alive a_numbers' b_fields' b_alive' ∧
      vr_V D M a_numbers' b_alive' (upd a_held (6 * (D - 1) + v) x) (upd a_lent (D - 1) (vr_le (a_lent (D - 1)) v lo)) (upd b_variable (6 * (D - 1) + v) y) (upd b_loan (6 * (D - 1) + v) (vr_lo lo y)) ∧
      (∀ (post : SX → Prop), post (f_known, nI D, f_brief, f_outCount, nI E', f_ups, f_downs', f_steps, f_made, nI L', f_gift, f_ended, f_stopped, a_length, a_lends, a_ops, a_firsts, a_seconds, a_thirds, a_need, a_loan, a_hands, a_keeps, a_come, a_numbers', a_ints, a_counts', a_fields', a_ending', a_stage', a_fMethod, a_fLine, upd a_held (6 * (D - 1) + v) x, upd a_lent (D - 1) (vr_le (a_lent (D - 1)) v lo), a_outs, a_ends') → wpX_let post (f_known, nI D, f_brief, f_outCount, nI E, f_ups, f_downs, f_steps, f_made, nI L, f_gift, f_ended, f_stopped, a_length, a_lends, a_ops, a_firsts, a_seconds, a_thirds, a_need, a_loan, a_hands, a_keeps, a_come, a_numbers, a_ints, a_counts, a_fields, a_ending, a_stage, a_fMethod, a_fLine, a_held, a_lent, a_outs, a_ends) (nI v) x lo) ∧
      (∀ (post : SY → Prop), post (g_known, nI M, nI L', g_counted, f_downs', nI D, g_begun, g_given, g_outcome, g_isShort, g_ran, g_put, nI E', b_ops, b_as, b_bs, b_cs, b_size, b_lent, b_need, b_plans, b_keep, b_value, b_fields', b_alive', b_method, b_pc, upd b_variable (6 * (D - 1) + v) y, upd b_loan (6 * (D - 1) + v) (vr_lo lo y), b_outs, a_ends', b_todo', b_phase') → wpY_get post (g_known, nI M, nI L, g_counted, f_downs, nI D, g_begun, g_given, g_outcome, g_isShort, g_ran, g_put, nI E, b_ops, b_as, b_bs, b_cs, b_size, b_lent, b_need, b_plans, b_keep, b_value, b_fields, b_alive, b_method, b_pc, b_variable, b_loan, b_outs, a_ends, b_todo, b_phase) (nI (6 * (D - 1) + v)) y lo) := by
  obtain ⟨hL24, hEL, hM⟩ := hp_L24 H
  have hw : 6 * (D - 1) + v < 6 * D := by omega
  obtain ⟨k1, k2⟩ := V.1 _ hw
  rw [show (6 * (D - 1) + v) / 6 = D - 1 by omega, show (6 * (D - 1) + v) % 6 = v by omega] at k2
  have hmk := V.2 (D - 1) (by omega)
  have V1 := vr_up (lo := lo) hD1 hv hxy V
  have H1 : HR M E L 0 (fun n => hp_RC g_given (upd b_variable (6 * (D - 1) + v) y) (upd b_loan (6 * (D - 1) + v) (vr_lo lo y)) D n + (if b_loan (6 * (D - 1) + v) = 0 then hp_dl (b_variable (6 * (D - 1) + v)) n else 0)) a_numbers a_ints a_counts a_fields a_ending a_stage b_value b_fields b_alive b_todo b_phase := by
    refine hp_cg (fun n h1 h2 => ?_) H
    have := hp_RC_u (gv := g_given) (va := b_variable) (lo := b_loan) (D := D) (n := n) (w := 6 * (D - 1) + v) (y := y) (l := vr_lo lo y) hw
    show hp_RC g_given (upd b_variable (6 * (D - 1) + v) y) (upd b_loan (6 * (D - 1) + v) (vr_lo lo y)) D n + (if b_loan (6 * (D - 1) + v) = 0 then hp_dl (b_variable (6 * (D - 1) + v)) n else 0) = hp_RC g_given b_variable b_loan D n + (if lo = 0 then hp_dl y n else 0)
    rw [this]
    congr 1
    unfold vr_lo
    by_cases z : lo = 0
    · rw [if_pos z, if_pos z, if_pos rfl]
    · rw [if_neg z, if_neg z]
      by_cases q : y = 0
      · rw [if_pos q, if_pos rfl, q, hp_dl_0 h1 (by omega)]
      · rw [if_neg q, if_neg tl_n1']
  by_cases hl : b_loan (6 * (D - 1) + v) = 0
  · rcases k1 with ⟨wx, wy⟩ | ⟨q, t, hq, ht1, htM, ex, ey, hqt⟩
    · -- nothing there
      have H2 : HR M E L 0 (hp_RC g_given (upd b_variable (6 * (D - 1) + v) y) (upd b_loan (6 * (D - 1) + v) (vr_lo lo y)) D) a_numbers a_ints a_counts a_fields a_ending a_stage b_value b_fields b_alive b_todo b_phase := by
        refine hp_cg (fun n h1 h2 => ?_) H1
        show _ = _ + (if b_loan (6 * (D - 1) + v) = 0 then hp_dl (b_variable (6 * (D - 1) + v)) n else 0)
        rw [wy, hp_dl_0 h1 (by omega), ite_self, Nat.add_zero]
      refine ⟨E, L, f_downs, a_numbers, a_counts, a_fields, a_ending, a_stage, a_ends, b_fields, b_alive, b_todo, b_phase, H2, hp_HM_r, V1, fun post hpo => ?_, fun post hpo => ?_⟩
      · refine vg_xlet hD1 hD hv hxy hmk (br_c (fun z => ?_) (fun z => hpo))
        rw [wx]
        exact br_t tl_m1lt ⟨1, br_t (by decide : (0 : Int32) ≤ 0) hpo⟩
      · refine vg_yget (by omega) hxy hM ?_
        rw [wy, ite_self]
        exact br_t rfl hpo
    · -- a counted reference goes
      have H2 : HR M E L 0 (fun n => hp_RC g_given (upd b_variable (6 * (D - 1) + v) y) (upd b_loan (6 * (D - 1) + v) (vr_lo lo y)) D n + hp_dl (nI t) n) a_numbers a_ints a_counts a_fields a_ending a_stage b_value b_fields b_alive b_todo b_phase := by
        refine hp_cg (fun n h1 h2 => ?_) H1
        show _ = _ + (if b_loan (6 * (D - 1) + v) = 0 then hp_dl (b_variable (6 * (D - 1) + v)) n else 0)
        rw [if_pos hl, ey]
      have hal := (hp_al ht1 (by omega) H2 (show 0 < hp_RC g_given (upd b_variable (6 * (D - 1) + v) y) (upd b_loan (6 * (D - 1) + v) (vr_lo lo y)) D t + hp_dl (nI t) t + hp_FC b_fields M t by rw [hp_dl_s]; omega)).2
      obtain ⟨E', L', f_downs', a_numbers', a_counts', a_fields', a_ending', a_stage', a_ends', b_fields', b_alive', b_todo', b_phase', H3, hm3, hX, hY⟩ := dn (f_known := f_known) (f_brief := f_brief) (f_outCount := f_outCount) (f_ups := f_ups) (f_steps := f_steps) (f_gift := f_gift) (f_ended := f_ended) (f_stopped := f_stopped) (a_length := a_length) (a_lends := a_lends) (a_ops := a_ops) (a_firsts := a_firsts) (a_seconds := a_seconds) (a_thirds := a_thirds) (a_need := a_need) (a_loan := a_loan) (a_hands := a_hands) (a_keeps := a_keeps) (a_come := a_come) (a_fMethod := a_fMethod) (a_fLine := a_fLine) (a_held := upd a_held (6 * (D - 1) + v) x) (a_lent := upd a_lent (D - 1) (vr_le (a_lent (D - 1)) v lo)) (a_outs := a_outs) (g_known := g_known) (g_counted := g_counted) (g_begun := g_begun) (g_outcome := g_outcome) (g_isShort := g_isShort) (g_ran := g_ran) (g_put := g_put) (b_ops := b_ops) (b_as := b_as) (b_bs := b_bs) (b_cs := b_cs) (b_size := b_size) (b_lent := b_lent) (b_need := b_need) (b_plans := b_plans) (b_keep := b_keep) (b_method := b_method) (b_pc := b_pc) (b_variable := upd b_variable (6 * (D - 1) + v) y) (b_loan := upd b_loan (6 * (D - 1) + v) (vr_lo lo y)) (b_outs := b_outs) (f_depth := nI D) (f_made := f_made) (f_downs := f_downs) (a_ends := a_ends) hD hq ht1 htM (hqt hal) H2
      have hbt : bt (a_lent (D - 1)) v ≠ true := fun z => (k2 (by rw [ey]; exact nI_ne0 ht1 (by omega))).mp z hl
      refine ⟨E', L', f_downs', a_numbers', a_counts', a_fields', a_ending', a_stage', a_ends', b_fields', b_alive', b_todo', b_phase', H3, hm3, vr_m hm3 V1, fun post hpo => ?_, fun post hpo => ?_⟩
      · refine vg_xlet hD1 hD hv hxy hmk (br_t (if_neg hbt) ?_)
        rw [ex]
        exact hX _ hpo
      · refine vg_yget (by omega) hxy hM ?_
        rw [if_pos hl, ey]
        exact hY _ hpo
  · have H2 : HR M E L 0 (hp_RC g_given (upd b_variable (6 * (D - 1) + v) y) (upd b_loan (6 * (D - 1) + v) (vr_lo lo y)) D) a_numbers a_ints a_counts a_fields a_ending a_stage b_value b_fields b_alive b_todo b_phase := by
      refine hp_cg (fun n h1 h2 => ?_) H1
      show _ = _ + (if b_loan (6 * (D - 1) + v) = 0 then hp_dl (b_variable (6 * (D - 1) + v)) n else 0)
      rw [if_neg hl, Nat.add_zero]
    refine ⟨E, L, f_downs, a_numbers, a_counts, a_fields, a_ending, a_stage, a_ends, b_fields, b_alive, b_todo, b_phase, H2, hp_HM_r, V1, fun post hpo => ?_, fun post hpo => ?_⟩
    · refine vg_xlet hD1 hD hv hxy hmk ?_
      rcases k1 with ⟨wx, wy⟩ | ⟨q, t, hq, ht1, htM, ex, ey, hqt⟩
      · refine br_c (fun z => ?_) (fun z => hpo)
        rw [wx]
        exact br_t tl_m1lt ⟨1, br_t (by decide : (0 : Int32) ≤ 0) hpo⟩
      · have hbt := (k2 (by rw [ey]; exact nI_ne0 ht1 (by omega))).mpr hl
        exact br_f (by rw [if_pos hbt]; exact tl_n1') hpo
    · refine vg_yget (by omega) hxy hM ?_
      rw [if_neg hl]
      exact br_t rfl hpo
end
end
section
section
variable {f_known f_depth f_brief f_outCount f_endCount f_ups f_downs f_steps f_made f_alive f_gift f_ended f_stopped : Int32} {a_length a_lends a_ops a_firsts a_seconds a_thirds a_need a_loan a_hands a_keeps a_come a_numbers a_ints a_counts a_fields a_ending a_stage a_fMethod a_fLine a_held a_lent a_outs a_ends : Nat → Int32}
variable {g_known g_made g_living g_counted g_less g_depth g_begun g_given g_outcome g_isShort g_ran g_put g_ended : Int32} {b_ops b_as b_bs b_cs b_size b_lent b_need b_plans b_keep b_value b_fields b_alive b_method b_pc b_variable b_loan b_outs b_ends b_todo b_phase : Nat → Int32}
/-- a variable is cleared on both sides: X only if it holds something -/
theorem rn_clr {M D E L v : Nat} (hD1 : 1 ≤ D) (hD : D ≤ 6) (hv : v < 6) (V : vr_V D M a_numbers b_alive a_held a_lent b_variable b_loan)
    (H : HR M E L 0 (hp_RC g_given b_variable b_loan D) a_numbers a_ints a_counts a_fields a_ending a_stage b_value b_fields b_alive b_todo b_phase) :
    ∃ (E' L' : Nat) (f_downs' : Int32) (a_numbers' a_counts' a_fields' a_ending' a_stage' a_ends' b_fields' b_alive' b_todo' b_phase' a_held' a_lent' : Nat → Int32),
      HR M E' L' 0 (hp_RC g_given (upd b_variable (6 * (D - 1) + v) 0) (upd b_loan (6 * (D - 1) + v) 0) D) a_numbers' a_ints a_counts' a_fields' a_ending' a_stage' b_value b_fields' b_alive' b_todo' b_phase' ∧ hp_HM M a_numbers b_fields b_alive a_numbers' b_fields' b_alive' ∧
      vr_V D M a_numbers' b_alive' a_held' a_lent' (upd b_variable (6 * (D - 1) + v) 0) (upd b_loan (6 * (D - 1) + v) 0) ∧
      (∀ (K : SX → Prop), K (f_known, nI D, f_brief, f_outCount, nI E', f_ups, f_downs', f_steps, f_made, nI L', f_gift, f_ended, f_stopped, a_length, a_lends, a_ops, a_firsts, a_seconds, a_thirds, a_need, a_loan, a_hands, a_keeps, a_come, a_numbers', a_ints, a_counts', a_fields', a_ending', a_stage', a_fMethod, a_fLine, a_held', a_lent', a_outs, a_ends') →
        (a_held (6 * (D - 1) + v) < 0 → K (f_known, nI D, f_brief, f_outCount, nI E, f_ups, f_downs, f_steps, f_made, nI L, f_gift, f_ended, f_stopped, a_length, a_lends, a_ops, a_firsts, a_seconds, a_thirds, a_need, a_loan, a_hands, a_keeps, a_come, a_numbers, a_ints, a_counts, a_fields, a_ending, a_stage, a_fMethod, a_fLine, a_held, a_lent, a_outs, a_ends)) ∧ (¬ a_held (6 * (D - 1) + v) < 0 → wpX_let K (f_known, nI D, f_brief, f_outCount, nI E, f_ups, f_downs, f_steps, f_made, nI L, f_gift, f_ended, f_stopped, a_length, a_lends, a_ops, a_firsts, a_seconds, a_thirds, a_need, a_loan, a_hands, a_keeps, a_come, a_numbers, a_ints, a_counts, a_fields, a_ending, a_stage, a_fMethod, a_fLine, a_held, a_lent, a_outs, a_ends) (nI v) (-1) 0)) ∧
      (∀ (post : SY → Prop), post (g_known, nI M, nI L', g_counted, f_downs', nI D, g_begun, g_given, g_outcome, g_isShort, g_ran, g_put, nI E', b_ops, b_as, b_bs, b_cs, b_size, b_lent, b_need, b_plans, b_keep, b_value, b_fields', b_alive', b_method, b_pc, upd b_variable (6 * (D - 1) + v) 0, upd b_loan (6 * (D - 1) + v) 0, b_outs, a_ends', b_todo', b_phase') → wpY_get post (g_known, nI M, nI L, g_counted, f_downs, nI D, g_begun, g_given, g_outcome, g_isShort, g_ran, g_put, nI E, b_ops, b_as, b_bs, b_cs, b_size, b_lent, b_need, b_plans, b_keep, b_value, b_fields, b_alive, b_method, b_pc, b_variable, b_loan, b_outs, a_ends, b_todo, b_phase) (nI (6 * (D - 1) + v)) 0 0) := by
  have hw : 6 * (D - 1) + v < 6 * D := by omega
  have hn : hp_RW M a_numbers b_alive (-1) 0 := Or.inl ⟨rfl, rfl⟩
  obtain ⟨hL24, hEL, hM⟩ := hp_L24 H
  rcases (V.1 _ hw).1 with ⟨wx, wy⟩ | ⟨q, t, hq, ht1, htM, ex, ey, hqt⟩
  · refine ⟨E, L, f_downs, a_numbers, a_counts, a_fields, a_ending, a_stage, a_ends, b_fields, b_alive, b_todo, b_phase, a_held, a_lent, ?_, hp_HM_r, ?_, fun K hK => ⟨fun _ => hK, fun z => absurd (by rw [wx]; exact tl_m1lt) z⟩, fun post hpo => ?_⟩
    · refine hp_cg (fun n h1 h2 => ?_) H
      have := hp_RC_u (gv := g_given) (va := b_variable) (lo := b_loan) (D := D) (n := n) (w := 6 * (D - 1) + v) (y := 0) (l := 0) hw
      rw [wy, hp_dl_0 h1 (by omega), ite_self, ite_self] at this
      exact this
    · rw [tl_uid wy]
      refine ⟨fun w hw => ?_, V.2⟩
      obtain ⟨k1, k2⟩ := V.1 w hw
      refine ⟨k1, fun hy => ?_⟩
      rw [tl_un (show w ≠ 6 * (D - 1) + v from fun z => hy (by rw [z]; exact wy))]
      exact k2 hy
    · refine vg_yget (by omega) hn hM ?_
      rw [wy, ite_self]
      exact br_t rfl hpo
  · obtain ⟨E', L', f_downs', a_numbers', a_counts', a_fields', a_ending', a_stage', a_ends', b_fields', b_alive', b_todo', b_phase', H2, hm2, V2, hX, hY⟩ := vg_let (f_known := f_known) (f_brief := f_brief) (f_outCount := f_outCount) (f_ups := f_ups) (f_steps := f_steps) (f_gift := f_gift) (f_ended := f_ended) (f_stopped := f_stopped) (a_length := a_length) (a_lends := a_lends) (a_ops := a_ops) (a_firsts := a_firsts) (a_seconds := a_seconds) (a_thirds := a_thirds) (a_need := a_need) (a_loan := a_loan) (a_hands := a_hands) (a_keeps := a_keeps) (a_come := a_come) (a_fMethod := a_fMethod) (a_fLine := a_fLine) (a_held := a_held) (a_lent := a_lent) (a_outs := a_outs) (g_known := g_known) (g_counted := g_counted) (g_begun := g_begun) (g_outcome := g_outcome) (g_isShort := g_isShort) (g_ran := g_ran) (g_put := g_put) (b_ops := b_ops) (b_as := b_as) (b_bs := b_bs) (b_cs := b_cs) (b_size := b_size) (b_lent := b_lent) (b_need := b_need) (b_plans := b_plans) (b_keep := b_keep) (b_method := b_method) (b_pc := b_pc) (b_variable := b_variable) (b_loan := b_loan) (b_outs := b_outs) (f_made := f_made) (f_downs := f_downs) (a_ends := a_ends) (x := -1) (y := 0) (lo := 0) hD1 hD hv hn V (hp_cg (fun n h1 h2 => by
      show hp_RC g_given b_variable b_loan D n + (if (0 : Int32) = 0 then hp_dl 0 n else 0) = _
      rw [if_pos rfl, hp_dl_0 h1 (by omega), Nat.add_zero]) H)
    exact ⟨E', L', f_downs', a_numbers', a_counts', a_fields', a_ending', a_stage', a_ends', b_fields', b_alive', b_todo', b_phase', upd a_held (6 * (D - 1) + v) (-1), upd a_lent (D - 1) (vr_le (a_lent (D - 1)) v 0), H2, hm2, V2, fun K hK => ⟨fun z => absurd z (by rw [ex]; exact nI_pos (by omega)), fun _ => hX K hK⟩, hY⟩
end
end
section
/-! the code, what was found of it, and the relation in a run -/
def rn_len (a_length : Nat → Int32) (m : Nat) : Nat := (a_length m).toNatClampNeg
def cd_op (a_ops a_firsts a_seconds a_thirds b_as b_bs : Nat → Int32) (k : Nat) : Prop :=
  ∃ o : Nat, o < 14 ∧ a_ops k = nI o ∧ (o ≠ 10 → o ≠ 13 → ∃ a : Nat, a < 6 ∧ a_firsts k = nI a ∧ b_as k = nI a) ∧
    (o = 1 ∨ o = 3 ∨ o = 4 ∨ o = 11 → ∃ b : Nat, b < 6 ∧ a_seconds k = nI b ∧ b_bs k = nI b) ∧
    (o = 3 ∨ o = 4 → ∃ c : Nat, c < 3 ∧ a_thirds k = nI c) ∧ (o = 9 ∨ o = 10 → ∃ c : Nat, c < 16 ∧ a_thirds k = nI c) ∧ (o = 11 → ∃ c : Nat, c < 4 ∧ a_thirds k = nI c)
def cd_C (a_length a_ops a_firsts a_seconds a_thirds b_as b_bs : Nat → Int32) : Prop :=
  (∀ m, m < 4 → ∃ l : Nat, l ≤ 16 ∧ a_length m = nI l) ∧ ∀ k, k < 64 → cd_op a_ops a_firsts a_seconds a_thirds b_as b_bs k
theorem cd_len {a_length a_ops a_firsts a_seconds a_thirds b_as b_bs : Nat → Int32} (h : cd_C a_length a_ops a_firsts a_seconds a_thirds b_as b_bs) {m : Nat} (hm : m < 4) : rn_len a_length m ≤ 16 ∧ a_length m = nI (rn_len a_length m) := by
  obtain ⟨l, hl, e⟩ := h.1 m hm
  unfold rn_len
  rw [e, nI_clamp (by omega)]
  exact ⟨hl, rfl⟩
def rn_sc (a_ops a_thirds : Nat → Int32) (m j k : Nat) : Prop :=
  (a_ops (16 * m + j) ≠ 10 ∧ a_ops (16 * m + j) ≠ 12 ∧ a_ops (16 * m + j) ≠ 13 ∧ k = j + 1) ∨ ((a_ops (16 * m + j) = 9 ∨ a_ops (16 * m + j) = 10) ∧ a_thirds (16 * m + j) = nI k)
def rn_mild (o : Int32) : Prop := o = 5 ∨ o = 6 ∨ o = 7 ∨ o = 9 ∨ o = 10
/-- a set of lines that a loan may go through -/
def rn_LC (a_length a_ops a_thirds a_need : Nat → Int32) (m a b : Nat) (Q : Nat → Prop) : Prop :=
  ∀ j, Q j → j < rn_len a_length m ∧ bt (a_need (16 * m + j)) a = true ∧ bt (a_need (16 * m + j)) b = true ∧ rn_mild (a_ops (16 * m + j)) ∧
    ∀ k, rn_sc a_ops a_thirds m j k → k < rn_len a_length m → bt (a_need (16 * m + k)) a = true → Q k
def an_A (a_length a_lends a_ops a_firsts a_seconds a_thirds a_need a_loan a_hands a_keeps a_come b_as b_bs b_need b_plans b_keep : Nat → Int32) : Prop := ∀ m i, m < 4 → i < rn_len a_length m →
  b_need (16 * m + i) = a_need (16 * m + i) ∧ mkL 6 (a_need (16 * m + i)) ∧
  (b_plans (16 * m + i) = if a_loan (16 * m + i) ≠ 0 then 1 else if a_hands (16 * m + i) ≠ 0 then 2 else 0) ∧
  (a_come (16 * m + i) = 0 → b_keep (16 * m + i) = -1 ∧ a_keeps (16 * m + i) = 0) ∧ (a_come (16 * m + i) ≠ 0 → b_keep (16 * m + i) = a_keeps (16 * m + i)) ∧ (mkL 6 (a_keeps (16 * m + i)) ∧ (a_hands (16 * m + i) ≠ 0 → ∃ b : Nat, b < 6 ∧ a_seconds (16 * m + i) = nI b ∧ b_bs (16 * m + i) = nI b)) ∧
  (a_ops (16 * m + i) = 3 → ∃ b : Nat, b < 6 ∧ a_seconds (16 * m + i) = nI b ∧ bt (a_need (16 * m + i)) b = true) ∧
  (a_loan (16 * m + i) ≠ 0 → a_hands (16 * m + i) = 0 ∧ a_ops (16 * m + i) = 3 ∧ a_thirds (16 * m + i) ≠ 2 ∧ ∃ a b : Nat, ∃ Q : Nat → Prop, a < 6 ∧ b < 6 ∧ a_firsts (16 * m + i) = nI a ∧ a_seconds (16 * m + i) = nI b ∧ a ≠ b ∧
    rn_LC a_length a_ops a_thirds a_need m a b Q ∧ ∀ k, rn_sc a_ops a_thirds m i k → k < rn_len a_length m → bt (a_need (16 * m + k)) a = true → Q k)
/-- needed in front of a line -/
def rn_na (a_length a_need : Nat → Int32) (m i : Nat) : Int32 := if i < rn_len a_length m then a_need (16 * m + i) else 0
def rn_PR (b_variable b_loan : Nat → Int32) (w : Nat) : Prop := ∃ w', w' < 6 * (w / 6) ∧ b_loan w' = 0 ∧ b_variable w' = b_variable w
def rn_GL (a_length a_ops a_thirds a_need : Nat → Int32) (D M m i : Nat) (b_variable b_loan b_fields : Nat → Int32) (w : Nat) : Prop :=
  ∃ b f nb : Nat, ∃ Q : Nat → Prop, b < 6 ∧ f < 2 ∧ 1 ≤ nb ∧ nb ≤ M ∧ 6 * (D - 1) + b ≠ w ∧ b_variable (6 * (D - 1) + b) = nI nb ∧ b_fields (3 * nb + f) = b_variable w ∧
    (b_loan (6 * (D - 1) + b) = 0 ∨ rn_PR b_variable b_loan (6 * (D - 1) + b)) ∧ Q i ∧ rn_LC a_length a_ops a_thirds a_need m (w - 6 * (D - 1)) b Q
def rn_LS (f_brief : Int32) (a_length a_ops a_thirds a_need : Nat → Int32) (D M m i : Nat) (b_variable b_loan b_fields : Nat → Int32) : Prop :=
  ∀ w, w < 6 * D → b_loan w ≠ 0 → b_variable w ≠ 0 → f_brief ≠ 0 ∧ (rn_PR b_variable b_loan w ∨ (6 * (D - 1) ≤ w ∧ (bt (rn_na a_length a_need m i) (w - 6 * (D - 1)) = true → rn_GL a_length a_ops a_thirds a_need D M m i b_variable b_loan b_fields w)))
def rn_fr (a_length a_ops : Nat → Int32) (D : Nat) (a_fMethod a_fLine : Nat → Int32) : Prop :=
  ∀ d, d + 1 < D → ∃ m i : Nat, m < 4 ∧ i < rn_len a_length m ∧ a_fMethod d = nI m ∧ a_fLine d = nI i ∧ a_ops (16 * m + i) = 11
def rn_F0 (f_brief : Int32) (a_length a_ops a_thirds a_need : Nat → Int32) (D M E L S O m i : Nat) (a_numbers a_ints a_counts a_fields a_ending a_stage a_fMethod a_fLine a_held a_lent b_value b_fields b_alive b_variable b_loan b_todo b_phase : Nat → Int32) : Prop :=
  1 ≤ D ∧ D ≤ 6 ∧ M ≤ S ∧ O ≤ S ∧ S ≤ 300 ∧ m < 4 ∧ i ≤ 16 ∧ a_fMethod (D - 1) = nI m ∧ a_fLine (D - 1) = nI i ∧ rn_fr a_length a_ops D a_fMethod a_fLine ∧
  HR M E L 0 (hp_RC 0 b_variable b_loan D) a_numbers a_ints a_counts a_fields a_ending a_stage b_value b_fields b_alive b_todo b_phase ∧ vr_V D M a_numbers b_alive a_held a_lent b_variable b_loan ∧
  rn_LS f_brief a_length a_ops a_thirds a_need D M m i b_variable b_loan b_fields
def rn_NB (f_brief : Int32) (a_length a_need : Nat → Int32) (D m i : Nat) (b_variable : Nat → Int32) : Prop :=
  f_brief ≠ 0 → ∀ a, a < 6 → b_variable (6 * (D - 1) + a) ≠ 0 → bt (rn_na a_length a_need m i) a = true
section
variable {f_brief : Int32} {a_length a_ops a_thirds a_need b_variable b_loan b_fields b_fields' a_numbers b_alive a_numbers' b_alive' it co fi en st va td ph : Nat → Int32} {D M E L m i : Nat}
/-- a guarded variable keeps what it holds alive -/
theorem rn_pral {w n : Nat} {g : Int32} (hw : w < 6 * D) (hM : n ≤ 301) (h1 : 1 ≤ n) (e : b_variable w = nI n) (h : b_loan w = 0 ∨ rn_PR b_variable b_loan w)
    (H : HR M E L 0 (hp_RC g b_variable b_loan D) a_numbers it co fi en st va b_fields b_alive td ph) : n ≤ M ∧ b_alive n ≠ 0 := by
  refine hp_al h1 hM H ?_
  rcases h with h | ⟨w', hw', hl, e'⟩
  · have := hp_RC_ge (gv := g) (va := b_variable) (lo := b_loan) (D := D) hw h e
    omega
  · have := hp_RC_ge (gv := g) (va := b_variable) (lo := b_loan) (D := D) (w := w') (n := n) (by omega) hl (e'.trans e)
    omega
/-- in front of a line whose variables are needed everything held is alive -/
theorem rn_alive {w n : Nat} {g : Int32} (hD1 : 1 ≤ D) (hM : M ≤ 300) (hnM : n ≤ M) (NB : rn_NB f_brief a_length a_need D m i b_variable) (LS : rn_LS f_brief a_length a_ops a_thirds a_need D M m i b_variable b_loan b_fields) (hw : w < 6 * D) (h1 : 1 ≤ n) (e : b_variable w = nI n)
    (H : HR M E L 0 (hp_RC g b_variable b_loan D) a_numbers it co fi en st va b_fields b_alive td ph) : b_alive n ≠ 0 := by
  by_cases hl : b_loan w = 0
  · exact (rn_pral hw (by omega) h1 e (Or.inl hl) H).2
  · obtain ⟨hb, h⟩ := LS w hw hl (by rw [e]; exact nI_ne0 h1 (by omega))
    rcases h with h | ⟨hge, h⟩
    · exact (rn_pral hw (by omega) h1 e (Or.inr h) H).2
    · have hN := NB hb (w - 6 * (D - 1)) (by omega) (by rw [show 6 * (D - 1) + (w - 6 * (D - 1)) = w by omega, e]; exact nI_ne0 h1 (by omega))
      obtain ⟨b, f, nb, Q, hb6, hf, hn1, hnM', hne, eb, ef, hp, hQ, hLC⟩ := h hN
      refine (hp_al h1 (by omega) H ?_).2
      have := hp_FC_ge (bf := b_fields) (M := M) (n := n) hn1 hnM' hf (by rw [ef, e])
      omega
/-- clearing a variable that isn't needed keeps the loans safe -/
theorem rn_lsclr {v : Nat} {g : Int32} (hD1 : 1 ≤ D) (hM : M ≤ 300) (hv : v < 6) (hn : bt (rn_na a_length a_need m i) v = false) (hm : hp_HM M a_numbers b_fields b_alive a_numbers' b_fields' b_alive')
    (H : HR M E L 0 (hp_RC g (upd b_variable (6 * (D - 1) + v) 0) (upd b_loan (6 * (D - 1) + v) 0) D) a_numbers' it co fi en st va b_fields' b_alive' td ph)
    (LS : rn_LS f_brief a_length a_ops a_thirds a_need D M m i b_variable b_loan b_fields) :
    rn_LS f_brief a_length a_ops a_thirds a_need D M m i (upd b_variable (6 * (D - 1) + v) 0) (upd b_loan (6 * (D - 1) + v) 0) b_fields' := by
  have hPR : ∀ w, w < 6 * D → w ≠ 6 * (D - 1) + v → rn_PR b_variable b_loan w → rn_PR (upd b_variable (6 * (D - 1) + v) 0) (upd b_loan (6 * (D - 1) + v) 0) w := by
    intro w hw hne ⟨w', h1, h2, h3⟩
    refine ⟨w', h1, ?_, ?_⟩
    · rw [tl_un (by omega)]; exact h2
    · rw [tl_un (by omega), tl_un hne]; exact h3
  intro w hw hl hv0
  have hne : w ≠ 6 * (D - 1) + v := fun z => by rw [z, tl_us] at hv0; exact hv0 rfl
  rw [tl_un hne] at hl hv0
  obtain ⟨hb, h⟩ := LS w hw hl hv0
  refine ⟨hb, ?_⟩
  rcases h with h | ⟨hge, h⟩
  · exact Or.inl (hPR w hw hne h)
  · refine Or.inr ⟨hge, fun hN => ?_⟩
    obtain ⟨b, f, nb, Q, hb6, hf, hn1, hnM', hnb, eb, ef, hp, hQ, hLC⟩ := h hN
    have hbv : b ≠ v := fun z => by
      obtain ⟨k1, k2, k3, k4⟩ := hLC i hQ
      unfold rn_na at hn
      rw [if_pos k1, ← z, k3] at hn
      exact absurd hn (by decide)
    have hbw : 6 * (D - 1) + b ≠ 6 * (D - 1) + v := by omega
    have hp' : (upd b_loan (6 * (D - 1) + v) 0) (6 * (D - 1) + b) = 0 ∨ rn_PR (upd b_variable (6 * (D - 1) + v) 0) (upd b_loan (6 * (D - 1) + v) 0) (6 * (D - 1) + b) := by
      rcases hp with hp | hp
      · left; rw [tl_un hbw]; exact hp
      · exact Or.inr (hPR _ (by omega) hbw hp)
    have eb' : (upd b_variable (6 * (D - 1) + v) 0) (6 * (D - 1) + b) = nI nb := by rw [tl_un hbw]; exact eb
    have hal := (rn_pral (by omega) (by omega) hn1 eb' hp' H).2
    refine ⟨b, f, nb, Q, hb6, hf, hn1, hnM', hnb, eb', ?_, hp', hQ, hLC⟩
    rw [tl_un hne, hp_HM_f hm hn1 hnM' hal hf]
    exact ef
end
end
section
section
variable {f_known f_depth f_brief f_outCount f_endCount f_ups f_downs f_steps f_made f_alive f_gift f_ended f_stopped : Int32} {a_length a_lends a_ops a_firsts a_seconds a_thirds a_need a_loan a_hands a_keeps a_come a_numbers a_ints a_counts a_fields a_ending a_stage a_fMethod a_fLine a_held a_lent a_outs a_ends : Nat → Int32}
variable {g_known g_made g_living g_counted g_less g_depth g_begun g_given g_outcome g_isShort g_ran g_put g_ended : Int32} {b_ops b_as b_bs b_cs b_size b_lent b_need b_plans b_keep b_value b_fields b_alive b_method b_pc b_variable b_loan b_outs b_ends b_todo b_phase : Nat → Int32}
variable {D M E L S O m i : Nat}
theorem rn_needAt {post : Int32 → Prop} (hm : m < 4) (hi : i ≤ 16) (hl : rn_len a_length m ≤ 16 ∧ a_length m = nI (rn_len a_length m)) (h : post (rn_na a_length a_need m i)) : wpX_needAt post (f_known, f_depth, f_brief, f_outCount, f_endCount, f_ups, f_downs, f_steps, f_made, f_alive, f_gift, f_ended, f_stopped, a_length, a_lends, a_ops, a_firsts, a_seconds, a_thirds, a_need, a_loan, a_hands, a_keeps, a_come, a_numbers, a_ints, a_counts, a_fields, a_ending, a_stage, a_fMethod, a_fLine, a_held, a_lent, a_outs, a_ends) (nI m) (nI i) := by
  have cm : (nI m).toNatClampNeg = m := nI_clamp (by omega)
  have e : 16 * nI m + nI i = nI (16 * m + i) := tl_16 m i
  have c : (nI (16 * m + i)).toNatClampNeg = 16 * m + i := nI_clamp (by omega)
  refine And.intro (vp_in_nI hm (by omega)) ?_
  rw [cm, hl.2, e, c]
  unfold rn_na at h
  by_cases z : i < rn_len a_length m
  · rw [if_pos z] at h
    exact br_f (nI_ge z (by omega)) ⟨vp_in_nI (by omega) (by omega), h⟩
  · rw [if_neg z] at h
    exact br_t (nI_le (by omega) (by omega)) h
theorem rn_dloop {ns : Int32} (hns : ns = rn_na a_length a_need m i) (hbr : f_brief ≠ 0) : ∀ (d v : Nat) (E L : Nat) (f_downs : Int32) (a_numbers a_counts a_fields a_ending a_stage a_ends b_fields b_alive b_todo b_phase a_held a_lent b_variable b_loan : Nat → Int32), v + d = 6 → rn_F0 f_brief a_length a_ops a_thirds a_need D M E L S O m i a_numbers a_ints a_counts a_fields a_ending a_stage a_fMethod a_fLine a_held a_lent b_value b_fields b_alive b_variable b_loan b_todo b_phase → (∀ a, a < v → b_variable (6 * (D - 1) + a) ≠ 0 → bt ns a = true) →
    ∃ (E' L' : Nat) (f_downs' : Int32) (a_numbers' a_counts' a_fields' a_ending' a_stage' a_ends' b_fields' b_alive' b_todo' b_phase' a_held' a_lent' b_variable' b_loan' : Nat → Int32), rn_F0 f_brief a_length a_ops a_thirds a_need D M E' L' S O m i a_numbers' a_ints a_counts' a_fields' a_ending' a_stage' a_fMethod a_fLine a_held' a_lent' b_value b_fields' b_alive' b_variable' b_loan' b_todo' b_phase' ∧ (∀ a, a < 6 → b_variable' (6 * (D - 1) + a) ≠ 0 → bt ns a = true) ∧
      (∀ post : SX → Prop, post (f_known, nI D, f_brief, nI O, nI E', f_ups, f_downs', nI S, nI M, nI L', 0, (-1), (-1), a_length, a_lends, a_ops, a_firsts, a_seconds, a_thirds, a_need, a_loan, a_hands, a_keeps, a_come, a_numbers', a_ints, a_counts', a_fields', a_ending', a_stage', a_fMethod, a_fLine, a_held', a_lent', a_outs, a_ends') → wX_drop_29 post ns (d + 1) (nI v) f_known (nI D) f_brief (nI O) (nI E) f_ups f_downs (nI S) (nI M) (nI L) 0 (-1) (-1) a_length a_lends a_ops a_firsts a_seconds a_thirds a_need a_loan a_hands a_keeps a_come a_numbers a_ints a_counts a_fields a_ending a_stage a_fMethod a_fLine a_held a_lent a_outs a_ends) ∧
      (∀ post : SY → Prop, wY_step_94 post (nI (D - 1)) (nI m) (nI i) f_known (nI M) (nI L') f_ups f_downs' (nI D) (nI S) 0 (-1) f_brief g_ran (nI O) (nI E') a_ops b_as b_bs a_thirds a_length a_lends b_need b_plans b_keep b_value b_fields' b_alive' a_fMethod a_fLine b_variable' b_loan' a_outs a_ends' b_todo' b_phase' → wY_step_51 post (nI (D - 1)) (nI m) (nI i) ns (d + 1) (nI v) f_known (nI M) (nI L) f_ups f_downs (nI D) (nI S) 0 (-1) f_brief g_ran (nI O) (nI E) a_ops b_as b_bs a_thirds a_length a_lends b_need b_plans b_keep b_value b_fields b_alive a_fMethod a_fLine b_variable b_loan a_outs a_ends b_todo b_phase) := by
  intro d
  induction d with
  | zero =>
    intro v E L f_downs a_numbers a_counts a_fields a_ending a_stage a_ends b_fields b_alive b_todo b_phase a_held a_lent b_variable b_loan hv F hN
    have hv6 : v = 6 := by omega
    subst hv6
    refine ⟨E, L, f_downs, a_numbers, a_counts, a_fields, a_ending, a_stage, a_ends, b_fields, b_alive, b_todo, b_phase, a_held, a_lent, b_variable, b_loan, F, hN, fun post hp => ?_, fun post hp => ?_⟩
    · rw [wX_drop_29]
      exact br_t (by decide : (6 : Int32) ≤ nI 6) hp
    · rw [wY_step_51]
      exact br_t (by decide : (6 : Int32) ≤ nI 6) hp
  | succ d ih =>
    intro v E L f_downs a_numbers a_counts a_fields a_ending a_stage a_ends b_fields b_alive b_todo b_phase a_held a_lent b_variable b_loan hv F hN
    have h6 : ¬ (6 : Int32) ≤ nI v := nI_ge (b := 6) (by omega) (by omega)
    have F' := F
    obtain ⟨hD1, hD6, hMS, hOS, hS, hm, hi, eM, eL, hfr, H, V, LS⟩ := F'
    obtain ⟨hL24, hEL, hM⟩ := hp_L24 H
    cases hb : bt ns v
    · obtain ⟨E1, L1, f_downs1, a_numbers1, a_counts1, a_fields1, a_ending1, a_stage1, a_ends1, b_fields1, b_alive1, b_todo1, b_phase1, a_held1, a_lent1, H1, hm1, V1, hX1, hY1⟩ := rn_clr (f_known := f_known) (f_brief := f_brief) (f_outCount := nI O) (f_ups := f_ups) (f_steps := nI S) (f_gift := 0) (f_ended := -1) (f_stopped := -1) (a_length := a_length) (a_lends := a_lends) (a_ops := a_ops) (a_firsts := a_firsts) (a_seconds := a_seconds) (a_thirds := a_thirds) (a_need := a_need) (a_loan := a_loan) (a_hands := a_hands) (a_keeps := a_keeps) (a_come := a_come) (a_fMethod := a_fMethod) (a_fLine := a_fLine) (a_held := a_held) (a_lent := a_lent) (a_outs := a_outs) (g_known := f_known) (g_counted := f_ups) (g_begun := nI S) (g_outcome := -1) (g_isShort := f_brief) (g_ran := g_ran) (g_put := nI O) (b_ops := a_ops) (b_as := b_as) (b_bs := b_bs) (b_cs := a_thirds) (b_size := a_length) (b_lent := a_lends) (b_need := b_need) (b_plans := b_plans) (b_keep := b_keep) (b_method := a_fMethod) (b_pc := a_fLine) (b_variable := b_variable) (b_loan := b_loan) (b_outs := a_outs) (f_made := nI M) (f_downs := f_downs) (a_ends := a_ends) (v := v) hD1 hD6 (by omega) V H
      obtain ⟨E', L', f_downs', a_numbers', a_counts', a_fields', a_ending', a_stage', a_ends', b_fields', b_alive', b_todo', b_phase', a_held', a_lent', b_variable', b_loan', F2, hN2, hX2, hY2⟩ := ih (v + 1) E1 L1 f_downs1 a_numbers1 a_counts1 a_fields1 a_ending1 a_stage1 a_ends1 b_fields1 b_alive1 b_todo1 b_phase1 a_held1 a_lent1 (upd b_variable (6 * (D - 1) + v) 0) (upd b_loan (6 * (D - 1) + v) 0) (by omega)
        ⟨hD1, hD6, hMS, hOS, hS, hm, hi, eM, eL, hfr, H1, V1, rn_lsclr hD1 hM (by omega) (by rw [← hns]; exact hb) hm1 H1 LS⟩ (fun a ha hva => by
          by_cases z : a = v
          · rw [z, tl_us] at hva; exact absurd rfl hva
          · rw [tl_un (by omega)] at hva
            exact hN a (by omega) hva)
      have e0 : (if bt ns v = true then (1 : Int32) else 0) = 0 := by rw [hb]; rfl
      refine ⟨E', L', f_downs', a_numbers', a_counts', a_fields', a_ending', a_stage', a_ends', b_fields', b_alive', b_todo', b_phase', a_held', a_lent', b_variable', b_loan', F2, hN2, fun post hp => ?_, fun post hp => ?_⟩
      · rw [wX_drop_29]
        refine br_f h6 (br_f hbr (vg_has (by omega) ?_))
        rw [e0]
        exact br_t rfl (vg_var hD1 hD6 (by omega) (hX1 (fun u => match u with | (f_known, f_depth, f_brief, f_outCount, f_endCount, f_ups, f_downs, f_steps, f_made, f_alive, f_gift, f_ended, f_stopped, a_length, a_lends, a_ops, a_firsts, a_seconds, a_thirds, a_need, a_loan, a_hands, a_keeps, a_come, a_numbers, a_ints, a_counts, a_fields, a_ending, a_stage, a_fMethod, a_fLine, a_held, a_lent, a_outs, a_ends) => ∀ y : Int32, y = nI v + 1 → wX_drop_29 post ns (d + 1) y f_known f_depth f_brief f_outCount f_endCount f_ups f_downs f_steps f_made f_alive f_gift f_ended f_stopped a_length a_lends a_ops a_firsts a_seconds a_thirds a_need a_loan a_hands a_keeps a_come a_numbers a_ints a_counts a_fields a_ending a_stage a_fMethod a_fLine a_held a_lent a_outs a_ends) (nm_r (nI_1 v) (hX2 post hp))))
      · rw [wY_step_51]
        refine br_f h6 (br_f hbr (br_t ((bt_has0 _ (by omega)).mpr hb) ?_))
        rw [tl_6]
        exact hY1 _ (nm_r (nI_1 v) (hY2 post hp))
    · obtain ⟨E', L', f_downs', a_numbers', a_counts', a_fields', a_ending', a_stage', a_ends', b_fields', b_alive', b_todo', b_phase', a_held', a_lent', b_variable', b_loan', F2, hN2, hX2, hY2⟩ := ih (v + 1) E L f_downs a_numbers a_counts a_fields a_ending a_stage a_ends b_fields b_alive b_todo b_phase a_held a_lent b_variable b_loan (by omega) F (fun a ha hva => by
          by_cases z : a = v
          · rw [z]; exact hb
          · exact hN a (by omega) hva)
      have e1 : (if bt ns v = true then (1 : Int32) else 0) = 1 := by rw [hb]; rfl
      refine ⟨E', L', f_downs', a_numbers', a_counts', a_fields', a_ending', a_stage', a_ends', b_fields', b_alive', b_todo', b_phase', a_held', a_lent', b_variable', b_loan', F2, hN2, fun post hp => ?_, fun post hp => ?_⟩
      · rw [wX_drop_29]
        refine br_f h6 (br_f hbr (vg_has (by omega) ?_))
        rw [e1]
        exact br_f tl_n1' (nm_r (nI_1 v) (hX2 post hp))
      · rw [wY_step_51]
        refine br_f h6 (br_f hbr (br_f (fun z => ?_) (nm_r (nI_1 v) (hY2 post hp))))
        rw [bt_has0 _ (by omega), hb] at z
        exact absurd z (by decide)
theorem rn_drop (hC : cd_C a_length a_ops a_firsts a_seconds a_thirds b_as b_bs) (hA : an_A a_length a_lends a_ops a_firsts a_seconds a_thirds a_need a_loan a_hands a_keeps a_come b_as b_bs b_need b_plans b_keep) (F : rn_F0 f_brief a_length a_ops a_thirds a_need D M E L S O m i a_numbers a_ints a_counts a_fields a_ending a_stage a_fMethod a_fLine a_held a_lent b_value b_fields b_alive b_variable b_loan b_todo b_phase) :
    ∃ (E' L' : Nat) (f_downs' : Int32) (a_numbers' a_counts' a_fields' a_ending' a_stage' a_ends' b_fields' b_alive' b_todo' b_phase' a_held' a_lent' b_variable' b_loan' : Nat → Int32), rn_F0 f_brief a_length a_ops a_thirds a_need D M E' L' S O m i a_numbers' a_ints a_counts' a_fields' a_ending' a_stage' a_fMethod a_fLine a_held' a_lent' b_value b_fields' b_alive' b_variable' b_loan' b_todo' b_phase' ∧ rn_NB f_brief a_length a_need D m i b_variable' ∧
      (∀ post : SX → Prop, post (f_known, nI D, f_brief, nI O, nI E', f_ups, f_downs', nI S, nI M, nI L', 0, (-1), (-1), a_length, a_lends, a_ops, a_firsts, a_seconds, a_thirds, a_need, a_loan, a_hands, a_keeps, a_come, a_numbers', a_ints, a_counts', a_fields', a_ending', a_stage', a_fMethod, a_fLine, a_held', a_lent', a_outs, a_ends') → wpX_drop post (f_known, nI D, f_brief, nI O, nI E, f_ups, f_downs, nI S, nI M, nI L, 0, (-1), (-1), a_length, a_lends, a_ops, a_firsts, a_seconds, a_thirds, a_need, a_loan, a_hands, a_keeps, a_come, a_numbers, a_ints, a_counts, a_fields, a_ending, a_stage, a_fMethod, a_fLine, a_held, a_lent, a_outs, a_ends)) ∧
      (∀ post : SY → Prop, wY_step_94 post (nI (D - 1)) (nI m) (nI i) f_known (nI M) (nI L') f_ups f_downs' (nI D) (nI S) 0 (-1) f_brief g_ran (nI O) (nI E') a_ops b_as b_bs a_thirds a_length a_lends b_need b_plans b_keep b_value b_fields' b_alive' a_fMethod a_fLine b_variable' b_loan' a_outs a_ends' b_todo' b_phase' → wpY_step post (f_known, nI M, nI L, f_ups, f_downs, nI D, nI S, 0, (-1), f_brief, g_ran, nI O, nI E, a_ops, b_as, b_bs, a_thirds, a_length, a_lends, b_need, b_plans, b_keep, b_value, b_fields, b_alive, a_fMethod, a_fLine, b_variable, b_loan, a_outs, a_ends, b_todo, b_phase)) := by
  have F' := F
  obtain ⟨hD1, hD6, hMS, hOS, hS, hm, hi, eM, eL, hfr, H, V, LS⟩ := F'
  have ed : nI D - 1 = nI (D - 1) := tl_pred hD1
  have cd : (nI (D - 1)).toNatClampNeg = D - 1 := nI_clamp (by omega)
  have vd : vp_in (nI (D - 1)) 6 := vp_in_nI (by omega) (by omega)
  have cm : (nI m).toNatClampNeg = m := nI_clamp (by omega)
  have vm : vp_in (nI m) 4 := vp_in_nI (by omega) (by omega)
  have e16 : 16 * nI m + nI i = nI (16 * m + i) := tl_16 m i
  have c16 : (nI (16 * m + i)).toNatClampNeg = 16 * m + i := nI_clamp (by omega)
  have hl := cd_len hC hm
  have KX : ∀ (u : SX) (k : Nat), (∀ post : SX → Prop, post u → wX_drop_29 post (rn_na a_length a_need m i) k 0 f_known (nI D) f_brief (nI O) (nI E) f_ups f_downs (nI S) (nI M) (nI L) 0 (-1) (-1) a_length a_lends a_ops a_firsts a_seconds a_thirds a_need a_loan a_hands a_keeps a_come a_numbers a_ints a_counts a_fields a_ending a_stage a_fMethod a_fLine a_held a_lent a_outs a_ends) → ∀ post : SX → Prop, post u → wpX_drop post (f_known, nI D, f_brief, nI O, nI E, f_ups, f_downs, nI S, nI M, nI L, 0, (-1), (-1), a_length, a_lends, a_ops, a_firsts, a_seconds, a_thirds, a_need, a_loan, a_hands, a_keeps, a_come, a_numbers, a_ints, a_counts, a_fields, a_ending, a_stage, a_fMethod, a_fLine, a_held, a_lent, a_outs, a_ends) := by
    intro u k h post hp
    refine And.intro (by rw [ed]; exact vd) (And.intro (by rw [ed]; exact vd) ?_)
    rw [ed, cd, eM, eL]
    exact rn_needAt hm hi hl ⟨k, h post hp⟩
  have KY : ∀ (k : Nat) (post : SY → Prop), wY_step_51 post (nI (D - 1)) (nI m) (nI i) (rn_na a_length a_need m i) k 0 f_known (nI M) (nI L) f_ups f_downs (nI D) (nI S) 0 (-1) f_brief g_ran (nI O) (nI E) a_ops b_as b_bs a_thirds a_length a_lends b_need b_plans b_keep b_value b_fields b_alive a_fMethod a_fLine b_variable b_loan a_outs a_ends b_todo b_phase → wpY_step post (f_known, nI M, nI L, f_ups, f_downs, nI D, nI S, 0, (-1), f_brief, g_ran, nI O, nI E, a_ops, b_as, b_bs, a_thirds, a_length, a_lends, b_need, b_plans, b_keep, b_value, b_fields, b_alive, a_fMethod, a_fLine, b_variable, b_loan, a_outs, a_ends, b_todo, b_phase) := by
    intro k post h
    refine nm_r ed (And.intro vd (nm_r (e' := nI m) (by rw [cd]; exact eM) (And.intro vd (nm_r (e' := nI i) (by rw [cd]; exact eL) (And.intro vm ?_)))))
    rw [cm, hl.2]
    by_cases z : i < rn_len a_length m
    · have ens : rn_na a_length a_need m i = b_need (16 * m + i) := by
        unfold rn_na
        rw [if_pos z, (hA m i hm z).1]
      rw [ens] at h
      refine br_f (nI_ge z (by omega)) ?_
      rw [e16, c16]
      exact ⟨vp_in_nI (by omega) (by omega), nm_e ⟨k, h⟩⟩
    · have ens : rn_na a_length a_need m i = 0 := by
        unfold rn_na
        rw [if_neg z]
      rw [ens] at h
      exact br_t (nI_le (by omega) (by omega)) ⟨k, h⟩
  by_cases hbr : f_brief = 0
  · refine ⟨E, L, f_downs, a_numbers, a_counts, a_fields, a_ending, a_stage, a_ends, b_fields, b_alive, b_todo, b_phase, a_held, a_lent, b_variable, b_loan, F, fun z => absurd hbr z, KX _ 1 (fun post hp => ?_), fun post hp => KY 1 post ?_⟩
    · rw [wX_drop_29]
      exact br_f (by decide : ¬ (6 : Int32) ≤ 0) (br_t hbr hp)
    · rw [wY_step_51]
      exact br_f (by decide : ¬ (6 : Int32) ≤ 0) (br_t hbr hp)
  · obtain ⟨E', L', f_downs', a_numbers', a_counts', a_fields', a_ending', a_stage', a_ends', b_fields', b_alive', b_todo', b_phase', a_held', a_lent', b_variable', b_loan', F2, hN2, hX2, hY2⟩ := rn_dloop (f_known := f_known) (f_ups := f_ups) (a_lends := a_lends) (a_firsts := a_firsts) (a_seconds := a_seconds) (a_loan := a_loan) (a_hands := a_hands) (a_keeps := a_keeps) (a_come := a_come) (a_outs := a_outs) (b_as := b_as) (b_bs := b_bs) (b_need := b_need) (b_plans := b_plans) (b_keep := b_keep) (g_ran := g_ran) rfl hbr 6 0 E L f_downs a_numbers a_counts a_fields a_ending a_stage a_ends b_fields b_alive b_todo b_phase a_held a_lent b_variable b_loan rfl F (fun a ha => by omega)
    exact ⟨E', L', f_downs', a_numbers', a_counts', a_fields', a_ending', a_stage', a_ends', b_fields', b_alive', b_todo', b_phase', a_held', a_lent', b_variable', b_loan', F2, fun _ => hN2, KX _ 7 hX2, fun post hp => KY 7 post (hY2 post hp)⟩
end
end
section
section
variable {f_known f_depth f_brief f_outCount f_endCount f_ups f_downs f_steps f_made f_alive f_gift f_ended f_stopped : Int32} {a_length a_lends a_ops a_firsts a_seconds a_thirds a_need a_loan a_hands a_keeps a_come a_numbers a_ints a_counts a_fields a_ending a_stage a_fMethod a_fLine a_held a_lent a_outs a_ends : Nat → Int32}
variable {g_known g_made g_living g_counted g_less g_depth g_begun g_given g_outcome g_isShort g_ran g_put g_ended : Int32} {b_ops b_as b_bs b_cs b_size b_lent b_need b_plans b_keep b_value b_fields b_alive b_method b_pc b_variable b_loan b_outs b_ends b_todo b_phase : Nat → Int32}
variable {D M E L S O m i : Nat} {rc : Nat → Nat}
/-! one reference more -/
def up_c (co : Nat → Int32) (x : Int32) : Nat → Int32 := if x < 0 then co else upd co x.toNatClampNeg (co x.toNatClampNeg + 1)
def up_u (u x : Int32) : Int32 := if x < 0 then u else u + 1
theorem up_rw {x y : Int32} (h : hp_RW M a_numbers b_alive x y) (hM : M ≤ 300) : (x < 0 ↔ y ≤ 0) ∧ (x < 0 ↔ y = 0) ∧ (x < 0 → x = -1) ∧ (¬ x < 0 → ∃ q, q < 24 ∧ x = nI q) := by
  rcases h with ⟨e, e2⟩ | ⟨q, t, hq, h1, hM', e, e2, _⟩
  · rw [e, e2]
    exact ⟨⟨fun _ => by decide, fun _ => tl_m1lt⟩, ⟨fun _ => rfl, fun _ => tl_m1lt⟩, fun _ => rfl, fun z => absurd tl_m1lt z⟩
  · rw [e, e2]
    exact ⟨⟨fun z => absurd z (nI_pos (by omega)), fun z => absurd z (nI_nle h1 (by omega))⟩, ⟨fun z => absurd z (nI_pos (by omega)), fun z => absurd z (nI_ne0 h1 (by omega))⟩, fun z => absurd z (nI_pos (by omega)), fun _ => ⟨q, hq, rfl⟩⟩
theorem up_x {post : SX → Prop} {x y : Int32} (hM : M ≤ 300) {nu al : Nat → Int32} (h : hp_RW M nu al x y) (hp : post (f_known, f_depth, f_brief, f_outCount, f_endCount, up_u f_ups x, f_downs, f_steps, f_made, f_alive, f_gift, f_ended, f_stopped, a_length, a_lends, a_ops, a_firsts, a_seconds, a_thirds, a_need, a_loan, a_hands, a_keeps, a_come, a_numbers, a_ints, up_c a_counts x, a_fields, a_ending, a_stage, a_fMethod, a_fLine, a_held, a_lent, a_outs, a_ends)) : wpX_up post (f_known, f_depth, f_brief, f_outCount, f_endCount, f_ups, f_downs, f_steps, f_made, f_alive, f_gift, f_ended, f_stopped, a_length, a_lends, a_ops, a_firsts, a_seconds, a_thirds, a_need, a_loan, a_hands, a_keeps, a_come, a_numbers, a_ints, a_counts, a_fields, a_ending, a_stage, a_fMethod, a_fLine, a_held, a_lent, a_outs, a_ends) x := by
  obtain ⟨_, _, h1, h2⟩ := up_rw h hM
  unfold up_u up_c at hp
  by_cases z : x < 0
  · rw [if_pos z, if_pos z] at hp
    exact br_f (Int32.not_le.mpr z) hp
  · rw [if_neg z, if_neg z] at hp
    obtain ⟨q, hq, e⟩ := h2 z
    have v : vp_in x 24 := by rw [e]; exact vp_in_nI hq (by omega)
    exact br_t (Int32.not_lt.mp z) ⟨v, v, nm_e (nm_e hp)⟩
theorem up_y {post : Int32 → SY → Prop} {x y : Int32} (hM : M ≤ 300) {nu al : Nat → Int32} (h : hp_RW M nu al x y) (hp : post y (g_known, g_made, g_living, up_u g_counted x, g_less, g_depth, g_begun, g_given, g_outcome, g_isShort, g_ran, g_put, g_ended, b_ops, b_as, b_bs, b_cs, b_size, b_lent, b_need, b_plans, b_keep, b_value, b_fields, b_alive, b_method, b_pc, b_variable, b_loan, b_outs, b_ends, b_todo, b_phase)) : wpY_more post (g_known, g_made, g_living, g_counted, g_less, g_depth, g_begun, g_given, g_outcome, g_isShort, g_ran, g_put, g_ended, b_ops, b_as, b_bs, b_cs, b_size, b_lent, b_need, b_plans, b_keep, b_value, b_fields, b_alive, b_method, b_pc, b_variable, b_loan, b_outs, b_ends, b_todo, b_phase) y := by
  obtain ⟨h0, _, h1, h2⟩ := up_rw h hM
  unfold up_u at hp
  by_cases z : x < 0
  · rw [if_pos z] at hp
    exact br_t (h0.mp z) hp
  · rw [if_neg z] at hp
    exact br_f (fun w => z (h0.mpr w)) (nm_e hp)
theorem up_h {x y : Int32} (h : hp_RW M a_numbers b_alive x y) (ha : ∀ t, 1 ≤ t → t ≤ M → y = nI t → b_alive t ≠ 0) (H : HR M E L 0 rc a_numbers a_ints a_counts a_fields a_ending a_stage b_value b_fields b_alive b_todo b_phase) : HR M E L 0 (fun n => rc n + hp_dl y n) a_numbers a_ints (up_c a_counts x) a_fields a_ending a_stage b_value b_fields b_alive b_todo b_phase := by
  obtain ⟨hL24, hEL, hM⟩ := hp_L24 H
  unfold up_c
  rcases h with ⟨e, e2⟩ | ⟨q, t, hq, h1, hM', e, e2, hn⟩
  · rw [if_pos (by rw [e]; exact tl_m1lt), e2]
    exact hp_cg (fun n a b => by rw [hp_dl_0 a (by omega), Nat.add_zero]) H
  · rw [if_neg (by rw [e]; exact nI_pos (by omega)), e, e2, nI_clamp (by omega)]
    have hal := ha t h1 hM' e2
    exact hp_up hq h1 hM' (hn hal) hal H
/-- a reference goes, or there was none -/
theorem dn_any {x y : Int32} (hD : D ≤ 6) (hxy : hp_RW M a_numbers b_alive x y)
    (H : HR M E L 0 (fun n => hp_RC g_given b_variable b_loan D n + hp_dl y n) a_numbers a_ints a_counts a_fields a_ending a_stage b_value b_fields b_alive b_todo b_phase) :
    ∃ (E' L' : Nat) (f_downs' : Int32) (a_numbers' a_counts' a_fields' a_ending' a_stage' a_ends' b_fields' b_alive' b_todo' b_phase' : Nat → Int32),
      HR M E' L' 0 (hp_RC g_given b_variable b_loan D) a_numbers' a_ints a_counts' a_fields' a_ending' a_stage' b_value b_fields' b_alive' b_todo' b_phase' ∧ hp_HM M a_numbers b_fields b_alive a_numbers' b_fields' b_alive' ∧
      (∀ (post : SX → Prop), post (f_known, f_depth, f_brief, f_outCount, nI E', f_ups, f_downs', f_steps, f_made, nI L', f_gift, f_ended, f_stopped, a_length, a_lends, a_ops, a_firsts, a_seconds, a_thirds, a_need, a_loan, a_hands, a_keeps, a_come, a_numbers', a_ints, a_counts', a_fields', a_ending', a_stage', a_fMethod, a_fLine, a_held, a_lent, a_outs, a_ends') → wpX_down post (f_known, f_depth, f_brief, f_outCount, nI E, f_ups, f_downs, f_steps, f_made, nI L, f_gift, f_ended, f_stopped, a_length, a_lends, a_ops, a_firsts, a_seconds, a_thirds, a_need, a_loan, a_hands, a_keeps, a_come, a_numbers, a_ints, a_counts, a_fields, a_ending, a_stage, a_fMethod, a_fLine, a_held, a_lent, a_outs, a_ends) x) ∧
      (∀ (post : SY → Prop), post (g_known, nI M, nI L', g_counted, f_downs', nI D, g_begun, g_given, g_outcome, g_isShort, g_ran, g_put, nI E', b_ops, b_as, b_bs, b_cs, b_size, b_lent, b_need, b_plans, b_keep, b_value, b_fields', b_alive', b_method, b_pc, b_variable, b_loan, b_outs, a_ends', b_todo', b_phase') → wpY_drop post (g_known, nI M, nI L, g_counted, f_downs, nI D, g_begun, g_given, g_outcome, g_isShort, g_ran, g_put, nI E, b_ops, b_as, b_bs, b_cs, b_size, b_lent, b_need, b_plans, b_keep, b_value, b_fields, b_alive, b_method, b_pc, b_variable, b_loan, b_outs, a_ends, b_todo, b_phase) y) := by
  obtain ⟨hL24, hEL, hM⟩ := hp_L24 H
  rcases hxy with ⟨e, e2⟩ | ⟨q, t, hq, h1, hM', e, e2, hn⟩
  · refine ⟨E, L, f_downs, a_numbers, a_counts, a_fields, a_ending, a_stage, a_ends, b_fields, b_alive, b_todo, b_phase, ?_, hp_HM_r, fun post hp => ?_, fun post hp => ?_⟩
    · refine hp_cg (fun n a b => ?_) H
      show _ = hp_RC g_given b_variable b_loan D n + hp_dl y n
      rw [e2, hp_dl_0 a (by omega), Nat.add_zero]
    · rw [e]
      exact br_t tl_m1lt ⟨1, br_t (by decide : (0 : Int32) ≤ 0) hp⟩
    · rw [e2]
      exact br_t rfl hp
  · subst e e2
    have hal := (hp_al h1 (by omega) H (show 0 < hp_RC g_given b_variable b_loan D t + hp_dl (nI t) t + hp_FC b_fields M t by rw [hp_dl_s]; omega)).2
    exact dn (f_known := f_known) (f_brief := f_brief) (f_outCount := f_outCount) (f_ups := f_ups) (f_steps := f_steps) (f_gift := f_gift) (f_ended := f_ended) (f_stopped := f_stopped) (a_length := a_length) (a_lends := a_lends) (a_ops := a_ops) (a_firsts := a_firsts) (a_seconds := a_seconds) (a_thirds := a_thirds) (a_need := a_need) (a_loan := a_loan) (a_hands := a_hands) (a_keeps := a_keeps) (a_come := a_come) (a_fMethod := a_fMethod) (a_fLine := a_fLine) (a_held := a_held) (a_lent := a_lent) (a_outs := a_outs) (g_known := g_known) (g_counted := g_counted) (g_begun := g_begun) (g_outcome := g_outcome) (g_isShort := g_isShort) (g_ran := g_ran) (g_put := g_put) (b_ops := b_ops) (b_as := b_as) (b_bs := b_bs) (b_cs := b_cs) (b_size := b_size) (b_lent := b_lent) (b_need := b_need) (b_plans := b_plans) (b_keep := b_keep) (b_method := b_method) (b_pc := b_pc) (b_variable := b_variable) (b_loan := b_loan) (b_outs := b_outs) (f_depth := f_depth) (f_made := f_made) (f_downs := f_downs) (a_ends := a_ends) hD hq h1 hM' (hn hal) H
/-! a new object -/
theorem mk_73s {post : Int32 → SX → Prop} {o k n : Nat} (ho : o < 24) (hk : k < 3 * o + 3) (h : wX_make_73 post (nI o) f_known f_depth f_brief f_outCount f_endCount f_ups f_downs f_steps f_made f_alive f_gift f_ended f_stopped n (nI (k + 1)) a_length a_lends a_ops a_firsts a_seconds a_thirds a_need a_loan a_hands a_keeps a_come a_numbers a_ints a_counts (upd a_fields k (-1)) a_ending a_stage a_fMethod a_fLine a_held a_lent a_outs a_ends) : wX_make_73 post (nI o) f_known f_depth f_brief f_outCount f_endCount f_ups f_downs f_steps f_made f_alive f_gift f_ended f_stopped (n + 1) (nI k) a_length a_lends a_ops a_firsts a_seconds a_thirds a_need a_loan a_hands a_keeps a_come a_numbers a_ints a_counts a_fields a_ending a_stage a_fMethod a_fLine a_held a_lent a_outs a_ends := by
  have c : (nI k).toNatClampNeg = k := nI_clamp (by omega)
  rw [wX_make_73, tl_3a, show (3 : Int32) = nI 3 from rfl, nI_add]
  exact br_f (nI_ge (by omega) (by omega)) ⟨vp_in_nI (by omega) (by omega), nm_r (e' := upd a_fields k (-1)) (by rw [c, tl_nbm1]) (nm_r (nI_1 k) h)⟩
def mk_f (f : Nat → Int32) (o : Nat) (x : Int32) : Nat → Int32 := upd (upd (upd f (3 * o) x) (3 * o + 1) x) (3 * o + 2) x
theorem mk_fs {f : Nat → Int32} {o p g : Nat} {x : Int32} (hg : g < 3) : mk_f f o x (3 * p + g) = if p = o then x else f (3 * p + g) := by
  unfold mk_f
  have hc : g = 0 ∨ g = 1 ∨ g = 2 := by omega
  by_cases z : p = o
  · rw [if_pos z, z]
    rcases hc with rfl | rfl | rfl
    · rw [tl_un (by omega), tl_un (by omega)]; exact tl_us
    · rw [tl_un (by omega)]; exact tl_us
    · exact tl_us
  · rw [if_neg z, tl_un (by omega), tl_un (by omega), tl_un (by omega)]
theorem mk_73 {post : Int32 → SX → Prop} {o : Nat} (ho : o < 24) (h : post (nI o) (f_known, f_depth, f_brief, f_outCount, f_endCount, f_ups, f_downs, f_steps, f_made, f_alive, f_gift, f_ended, f_stopped, a_length, a_lends, a_ops, a_firsts, a_seconds, a_thirds, a_need, a_loan, a_hands, a_keeps, a_come, a_numbers, a_ints, a_counts, mk_f a_fields o (-1), a_ending, a_stage, a_fMethod, a_fLine, a_held, a_lent, a_outs, a_ends)) : wX_make_73 post (nI o) f_known f_depth f_brief f_outCount f_endCount f_ups f_downs f_steps f_made f_alive f_gift f_ended f_stopped 4 (nI (3 * o)) a_length a_lends a_ops a_firsts a_seconds a_thirds a_need a_loan a_hands a_keeps a_come a_numbers a_ints a_counts a_fields a_ending a_stage a_fMethod a_fLine a_held a_lent a_outs a_ends := by
  refine mk_73s ho (by omega) (mk_73s ho (by omega) (mk_73s ho (by omega) ?_))
  rw [wX_make_73, tl_3a, show (3 : Int32) = nI 3 from rfl, nI_add]
  exact br_t (nI_le (by omega) (by omega)) h
theorem mk_13 {post : Int32 → SX → Prop} {o : Nat} {x1 : Int32} (ho : o < 24) (hz : a_numbers o = 0) (hpos : ∀ p, p < o → ∃ n, 1 ≤ n ∧ n < 2 ^ 31 ∧ a_numbers p = nI n)
    (h : post (nI o) (f_known, f_depth, f_brief, f_outCount, f_endCount, f_ups, f_downs, f_steps, nI (M + 1), nI (L + 1), f_gift, f_ended, f_stopped, a_length, a_lends, a_ops, a_firsts, a_seconds, a_thirds, a_need, a_loan, a_hands, a_keeps, a_come, upd a_numbers o (nI (M + 1)), upd a_ints o x1, upd a_counts o 1, mk_f a_fields o (-1), a_ending, a_stage, a_fMethod, a_fLine, a_held, a_lent, a_outs, a_ends)) :
    ∀ d k, k + d = o → wX_make_13 post x1 f_known f_depth f_brief f_outCount f_endCount f_ups f_downs f_steps (nI M) (nI L) f_gift f_ended f_stopped a_length a_lends a_ops a_firsts a_seconds a_thirds a_need a_loan a_hands a_keeps a_come a_numbers a_ints a_counts a_fields a_ending a_stage a_fMethod a_fLine a_held a_lent a_outs a_ends (d + 1) (nI k) := by
  intro d
  induction d with
  | zero =>
    intro k hk
    have e : k = o := by omega
    subst e
    have c : (nI k).toNatClampNeg = k := nI_clamp (by omega)
    have v : vp_in (nI k) 24 := vp_in_nI ho (by omega)
    rw [wX_make_13]
    refine ⟨v, br_t (by rw [c, hz]; decide) (nm_r (nI_1 M) ⟨v, nm_r (e' := upd a_numbers k (nI (M + 1))) (by rw [c, nI_1]) (nm_r (nI_1 L) ⟨v, nm_r (e' := upd a_ints k x1) (by rw [c]) ⟨v, nm_r (e' := upd a_counts k 1) (by rw [c]) (nm_r (tl_3a k) ⟨4, mk_73 ho h⟩)⟩⟩)⟩)⟩
  | succ d ih =>
    intro k hk
    obtain ⟨n, h1, h2, e⟩ := hpos k (by omega)
    have c : (nI k).toNatClampNeg = k := nI_clamp (by omega)
    rw [wX_make_13]
    exact ⟨vp_in_nI (by omega) (by omega), br_f (by rw [c, e]; exact nI_nle h1 h2) (nm_r (nI_1 k) (ih (k + 1) (by omega)))⟩
theorem mk_40s {post : Int32 → SY → Prop} {o k n : Nat} (ho : o < 301) (hk : k < 3 * o + 3) (h : wY_make_40 post (nI o) g_known g_made g_living g_counted g_less g_depth g_begun g_given g_outcome g_isShort g_ran g_put g_ended n (nI (k + 1)) b_ops b_as b_bs b_cs b_size b_lent b_need b_plans b_keep b_value (upd b_fields k 0) b_alive b_method b_pc b_variable b_loan b_outs b_ends b_todo b_phase) : wY_make_40 post (nI o) g_known g_made g_living g_counted g_less g_depth g_begun g_given g_outcome g_isShort g_ran g_put g_ended (n + 1) (nI k) b_ops b_as b_bs b_cs b_size b_lent b_need b_plans b_keep b_value b_fields b_alive b_method b_pc b_variable b_loan b_outs b_ends b_todo b_phase := by
  have c : (nI k).toNatClampNeg = k := nI_clamp (by omega)
  rw [wY_make_40, tl_3a, show (3 : Int32) = nI 3 from rfl, nI_add]
  exact br_f (nI_ge (by omega) (by omega)) ⟨vp_in_nI (by omega) (by omega), nm_r (e' := upd b_fields k 0) (by rw [c]) (nm_r (nI_1 k) h)⟩
theorem mk_40 {post : Int32 → SY → Prop} {o : Nat} (ho : o < 301) (h : post (nI o) (g_known, g_made, g_living, g_counted, g_less, g_depth, g_begun, g_given, g_outcome, g_isShort, g_ran, g_put, g_ended, b_ops, b_as, b_bs, b_cs, b_size, b_lent, b_need, b_plans, b_keep, b_value, mk_f b_fields o 0, b_alive, b_method, b_pc, b_variable, b_loan, b_outs, b_ends, b_todo, b_phase)) : wY_make_40 post (nI o) g_known g_made g_living g_counted g_less g_depth g_begun g_given g_outcome g_isShort g_ran g_put g_ended 4 (nI (3 * o)) b_ops b_as b_bs b_cs b_size b_lent b_need b_plans b_keep b_value b_fields b_alive b_method b_pc b_variable b_loan b_outs b_ends b_todo b_phase := by
  refine mk_40s ho (by omega) (mk_40s ho (by omega) (mk_40s ho (by omega) ?_))
  rw [wY_make_40, tl_3a, show (3 : Int32) = nI 3 from rfl, nI_add]
  exact br_t (nI_le (by omega) (by omega)) h
theorem mk_y {post : Int32 → SY → Prop} {v : Int32} (hM : M < 300)
    (h : post (nI (M + 1)) (g_known, nI (M + 1), nI (L + 1), g_counted, g_less, g_depth, g_begun, g_given, g_outcome, g_isShort, g_ran, g_put, g_ended, b_ops, b_as, b_bs, b_cs, b_size, b_lent, b_need, b_plans, b_keep, upd b_value (M + 1) v, mk_f b_fields (M + 1) 0, upd b_alive (M + 1) 1, b_method, b_pc, b_variable, b_loan, b_outs, b_ends, b_todo, b_phase)) :
    wpY_make post (g_known, nI M, nI L, g_counted, g_less, g_depth, g_begun, g_given, g_outcome, g_isShort, g_ran, g_put, g_ended, b_ops, b_as, b_bs, b_cs, b_size, b_lent, b_need, b_plans, b_keep, b_value, b_fields, b_alive, b_method, b_pc, b_variable, b_loan, b_outs, b_ends, b_todo, b_phase) v := by
  have c : (nI (M + 1)).toNatClampNeg = M + 1 := nI_clamp (by omega)
  have w : vp_in (nI (M + 1)) 301 := vp_in_nI (by omega) (by omega)
  exact nm_r (nI_1 M) (nm_r (nI_1 M) (nm_r (nI_1 L) (And.intro w (nm_r (e' := upd b_alive (M + 1) 1) (by rw [c, tl_nz1]) (And.intro w (nm_r (e' := upd b_value (M + 1) v) (by rw [c]) (nm_r (tl_3a (M + 1)) ⟨4, mk_40 (by omega) h⟩)))))))
/-- both make an object -/
theorem mk_j {v : Int32} (hL : L < 24) (hM : M < 300) (H : HR M E L 0 rc a_numbers a_ints a_counts a_fields a_ending a_stage b_value b_fields b_alive b_todo b_phase) : ∃ o, o < 24 ∧
    HR (M + 1) E (L + 1) 0 (fun n => rc n + hp_dl (nI (M + 1)) n) (upd a_numbers o (nI (M + 1))) (upd a_ints o v) (upd a_counts o 1) (mk_f a_fields o (-1)) a_ending a_stage (upd b_value (M + 1) v) (mk_f b_fields (M + 1) 0) (upd b_alive (M + 1) 1) b_todo b_phase ∧
    (∀ x y, hp_RW M a_numbers b_alive x y → hp_RW (M + 1) (upd a_numbers o (nI (M + 1))) (upd b_alive (M + 1) 1) x y) ∧
    (∀ post : Int32 → SX → Prop, post (nI o) (f_known, f_depth, f_brief, f_outCount, f_endCount, f_ups, f_downs, f_steps, nI (M + 1), nI (L + 1), f_gift, f_ended, f_stopped, a_length, a_lends, a_ops, a_firsts, a_seconds, a_thirds, a_need, a_loan, a_hands, a_keeps, a_come, upd a_numbers o (nI (M + 1)), upd a_ints o v, upd a_counts o 1, mk_f a_fields o (-1), a_ending, a_stage, a_fMethod, a_fLine, a_held, a_lent, a_outs, a_ends) → wpX_make post (f_known, f_depth, f_brief, f_outCount, f_endCount, f_ups, f_downs, f_steps, nI M, nI L, f_gift, f_ended, f_stopped, a_length, a_lends, a_ops, a_firsts, a_seconds, a_thirds, a_need, a_loan, a_hands, a_keeps, a_come, a_numbers, a_ints, a_counts, a_fields, a_ending, a_stage, a_fMethod, a_fLine, a_held, a_lent, a_outs, a_ends) v) := by
  obtain ⟨o, ⟨ho, hz⟩, hmin⟩ := pk_least (fun o => o < 24 ∧ a_numbers o = 0) (hp_room hL H)
  obtain ⟨H1, hw⟩ := hp_make (v := v) (fi' := mk_f a_fields o (-1)) (bf' := mk_f b_fields (M + 1) 0) hM ho hz (fun p f hp hf => mk_fs hf) (fun n f h1 h2 hf => mk_fs hf) H
  refine ⟨o, ho, H1, hw, fun post hp => ?_⟩
  refine br_f (fun z => ?_) ⟨o + 1, mk_13 ho hz (fun p hp => ?_) hp o 0 (by omega)⟩
  · have := tl_inj (b := 24) z (by omega) (by omega)
    omega
  · obtain ⟨n, hn, e⟩ := H.2.1 p (by omega)
    have hn0 : n ≠ 0 := fun w => hmin p hp ⟨by omega, by rw [e, w, nI_0]⟩
    exact ⟨n, by omega, by omega, e⟩
end
end
section
section
variable {f_known f_depth f_brief f_outCount f_endCount f_ups f_downs f_steps f_made f_alive f_gift f_ended f_stopped : Int32} {a_length a_lends a_ops a_firsts a_seconds a_thirds a_need a_loan a_hands a_keeps a_come a_numbers a_ints a_counts a_fields a_ending a_stage a_fMethod a_fLine a_held a_lent a_outs a_ends : Nat → Int32}
variable {g_known g_made g_living g_counted g_less g_depth g_begun g_given g_outcome g_isShort g_ran g_put g_ended : Int32} {b_ops b_as b_bs b_cs b_size b_lent b_need b_plans b_keep b_value b_fields b_alive b_method b_pc b_variable b_loan b_outs b_ends b_todo b_phase : Nat → Int32}
variable {D M E L S O m i : Nat} {rc : Nat → Nat}
/-! loans that a lower call protects -/
def rn_LP (f_brief : Int32) (D : Nat) (b_variable b_loan : Nat → Int32) : Prop := ∀ w, w < 6 * D → b_loan w ≠ 0 → b_variable w ≠ 0 → f_brief ≠ 0 ∧ rn_PR b_variable b_loan w
theorem rn_lpof (hD1 : 1 ≤ D) (h : ¬ i < rn_len a_length m ∨ ¬ rn_mild (a_ops (16 * m + i))) (NB : rn_NB f_brief a_length a_need D m i b_variable) (LS : rn_LS f_brief a_length a_ops a_thirds a_need D M m i b_variable b_loan b_fields) : rn_LP f_brief D b_variable b_loan := by
  intro w hw hl hv
  obtain ⟨hb, k⟩ := LS w hw hl hv
  refine ⟨hb, ?_⟩
  rcases k with k | ⟨hge, k⟩
  · exact k
  · exfalso
    have hN := NB hb (w - 6 * (D - 1)) (by omega) (by rw [show 6 * (D - 1) + (w - 6 * (D - 1)) = w by omega]; exact hv)
    obtain ⟨b, f, nb, Q, hb6, hf, hn1, hnM', hnb, eb, ef, hp, hQ, hLC⟩ := k hN
    obtain ⟨k1, k2, k3, k4, k5⟩ := hLC i hQ
    rcases h with h | h
    · exact h k1
    · exact h k4
theorem rn_lpls (h : rn_LP f_brief D b_variable b_loan) : rn_LS f_brief a_length a_ops a_thirds a_need D M m i b_variable b_loan b_fields :=
  fun w hw hl hv => ⟨(h w hw hl hv).1, Or.inl (h w hw hl hv).2⟩
theorem rn_lpu {w0 : Nat} {y l : Int32} (hw0 : 6 * (D - 1) ≤ w0) (hl : l = 0 ∨ y = 0) (h : rn_LP f_brief D b_variable b_loan) : rn_LP f_brief D (upd b_variable w0 y) (upd b_loan w0 l) := by
  intro w hw kl kv
  by_cases z : w = w0
  · rw [z, tl_us] at kl kv
    rcases hl with hl | hl
    · exact absurd hl kl
    · exact absurd hl kv
  · rw [tl_un z] at kl kv
    obtain ⟨hb, w', h1, h2, h3⟩ := h w hw kl kv
    exact ⟨hb, w', h1, by rw [tl_un (by omega)]; exact h2, by rw [tl_un (by omega), tl_un z]; exact h3⟩
theorem rn_lpu1 {w0 : Nat} (hw0 : 6 * (D - 1) ≤ w0) (h : rn_LP f_brief D b_variable b_loan) : rn_LP f_brief D (upd b_variable w0 0) b_loan := by
  have := rn_lpu (w0 := w0) (y := 0) (l := b_loan w0) hw0 (Or.inr rfl) h
  rw [tl_uid rfl] at this
  exact this
/-! handed over or counted -/
theorem vr_le0 (x : Int32) (v : Nat) : vr_le x v 0 = x &&& (((1 : Int32) <<< (nI v &&& 31)) ^^^ (-1)) := by
  unfold vr_le
  rw [if_pos rfl]
  refine b_ext (fun j hj => ?_)
  rw [b_or, b_0, Bool.or_false]
theorem ps_emp {post : SX → Prop} {v : Nat} (hD1 : 1 ≤ D) (hD : D ≤ 6) (hv : v < 6) (hm : mkL 6 (a_lent (D - 1))) (h : post (f_known, nI D, f_brief, f_outCount, f_endCount, f_ups, f_downs, f_steps, f_made, f_alive, f_gift, f_ended, f_stopped, a_length, a_lends, a_ops, a_firsts, a_seconds, a_thirds, a_need, a_loan, a_hands, a_keeps, a_come, a_numbers, a_ints, a_counts, a_fields, a_ending, a_stage, a_fMethod, a_fLine, upd a_held (6 * (D - 1) + v) (-1), upd a_lent (D - 1) (vr_le (a_lent (D - 1)) v 0), a_outs, a_ends)) : wpX_empty post (f_known, nI D, f_brief, f_outCount, f_endCount, f_ups, f_downs, f_steps, f_made, f_alive, f_gift, f_ended, f_stopped, a_length, a_lends, a_ops, a_firsts, a_seconds, a_thirds, a_need, a_loan, a_hands, a_keeps, a_come, a_numbers, a_ints, a_counts, a_fields, a_ending, a_stage, a_fMethod, a_fLine, a_held, a_lent, a_outs, a_ends) (nI v) := by
  have e : 6 * nI D - 6 + nI v = nI (6 * (D - 1) + v) := tl_var v hD1
  have c : (nI (6 * (D - 1) + v)).toNatClampNeg = 6 * (D - 1) + v := nI_clamp (by omega)
  have vi : vp_in (nI (6 * (D - 1) + v)) 36 := vp_in_nI (by omega) (by omega)
  have ed : nI D - 1 = nI (D - 1) := tl_pred hD1
  have cd : (nI (D - 1)).toNatClampNeg = D - 1 := nI_clamp (by omega)
  have vd : vp_in (nI (D - 1)) 6 := vp_in_nI (by omega) (by omega)
  unfold wpX_empty
  dsimp only
  rw [e, ed, c, cd, tl_nbm1]
  refine ⟨vi, nm_e ⟨vd, vd, nm_r (e' := upd a_lent (D - 1) (vr_le (a_lent (D - 1)) v 0)) ?_ h⟩⟩
  rw [← vr_le0, mk_nb (vr_le_mk hv hm)]
theorem ps_j {k v : Nat} (hD1 : 1 ≤ D) (hD : D ≤ 6) (hv : v < 6) (hk : k < 64) (hpl : b_plans k = 2 ↔ a_hands k ≠ 0) (V : vr_V D M a_numbers b_alive a_held a_lent b_variable b_loan) (H : HR M E L 0 (hp_RC 0 b_variable b_loan D) a_numbers a_ints a_counts a_fields a_ending a_stage b_value b_fields b_alive b_todo b_phase)
    (hal : ∀ t, 1 ≤ t → t ≤ M → b_variable (6 * (D - 1) + v) = nI t → b_alive t ≠ 0) :
    ∃ (f_ups' : Int32) (a_counts' a_held' a_lent' b_variable' : Nat → Int32),
      HR M E L 0 (fun n => hp_RC 0 b_variable' b_loan D n + hp_dl (b_variable (6 * (D - 1) + v)) n) a_numbers a_ints a_counts' a_fields a_ending a_stage b_value b_fields b_alive b_todo b_phase ∧
      vr_V D M a_numbers b_alive a_held' a_lent' b_variable' b_loan ∧ (b_variable' = b_variable ∨ b_variable' = upd b_variable (6 * (D - 1) + v) 0) ∧
      (∀ post : Int32 → SX → Prop, post (a_held (6 * (D - 1) + v)) (f_known, nI D, f_brief, f_outCount, f_endCount, f_ups', f_downs, f_steps, f_made, f_alive, f_gift, f_ended, f_stopped, a_length, a_lends, a_ops, a_firsts, a_seconds, a_thirds, a_need, a_loan, a_hands, a_keeps, a_come, a_numbers, a_ints, a_counts', a_fields, a_ending, a_stage, a_fMethod, a_fLine, a_held', a_lent', a_outs, a_ends) → wpX_pass post (f_known, nI D, f_brief, f_outCount, f_endCount, f_ups, f_downs, f_steps, f_made, f_alive, f_gift, f_ended, f_stopped, a_length, a_lends, a_ops, a_firsts, a_seconds, a_thirds, a_need, a_loan, a_hands, a_keeps, a_come, a_numbers, a_ints, a_counts, a_fields, a_ending, a_stage, a_fMethod, a_fLine, a_held, a_lent, a_outs, a_ends) (nI k) (nI v)) ∧
      (∀ post : Int32 → SY → Prop, post (b_variable (6 * (D - 1) + v)) (g_known, g_made, g_living, f_ups', g_less, g_depth, g_begun, g_given, g_outcome, f_brief, g_ran, g_put, g_ended, b_ops, b_as, b_bs, b_cs, b_size, b_lent, b_need, b_plans, b_keep, b_value, b_fields, b_alive, b_method, b_pc, b_variable', b_loan, b_outs, b_ends, b_todo, b_phase) → wpY_reference post (g_known, g_made, g_living, f_ups, g_less, g_depth, g_begun, g_given, g_outcome, f_brief, g_ran, g_put, g_ended, b_ops, b_as, b_bs, b_cs, b_size, b_lent, b_need, b_plans, b_keep, b_value, b_fields, b_alive, b_method, b_pc, b_variable, b_loan, b_outs, b_ends, b_todo, b_phase) (nI k) (nI (6 * (D - 1) + v))) := by
  obtain ⟨hL24, hEL, hM⟩ := hp_L24 H
  have hw : 6 * (D - 1) + v < 6 * D := by omega
  obtain ⟨k1, k2⟩ := V.1 _ hw
  rw [show (6 * (D - 1) + v) / 6 = D - 1 by omega, show (6 * (D - 1) + v) % 6 = v by omega] at k2
  have hmk := V.2 (D - 1) (by omega)
  have ck : (nI k).toNatClampNeg = k := nI_clamp (by omega)
  have vk : vp_in (nI k) 64 := vp_in_nI hk (by omega)
  have cw : (nI (6 * (D - 1) + v)).toNatClampNeg = 6 * (D - 1) + v := nI_clamp (by omega)
  have vw : vp_in (nI (6 * (D - 1) + v)) 36 := vp_in_nI (by omega) (by omega)
  obtain ⟨r1, r2, r3, r4⟩ := up_rw k1 hM
  -- Y: counted
  have KYm : ∀ post : Int32 → SY → Prop, post (b_variable (6 * (D - 1) + v)) (g_known, g_made, g_living, up_u f_ups (a_held (6 * (D - 1) + v)), g_less, g_depth, g_begun, g_given, g_outcome, f_brief, g_ran, g_put, g_ended, b_ops, b_as, b_bs, b_cs, b_size, b_lent, b_need, b_plans, b_keep, b_value, b_fields, b_alive, b_method, b_pc, b_variable, b_loan, b_outs, b_ends, b_todo, b_phase) → (f_brief = 0 ∨ b_plans k ≠ 2 ∨ b_loan (6 * (D - 1) + v) ≠ 0) → wpY_reference post (g_known, g_made, g_living, f_ups, g_less, g_depth, g_begun, g_given, g_outcome, f_brief, g_ran, g_put, g_ended, b_ops, b_as, b_bs, b_cs, b_size, b_lent, b_need, b_plans, b_keep, b_value, b_fields, b_alive, b_method, b_pc, b_variable, b_loan, b_outs, b_ends, b_todo, b_phase) (nI k) (nI (6 * (D - 1) + v)) := by
    intro post hp hc
    unfold wpY_reference wpY_takes
    dsimp only
    rw [cw, ck]
    refine ⟨vw, nm_e ?_⟩
    by_cases z : f_brief = 0
    · exact br_t z (br_t rfl (up_y hM k1 hp))
    · refine br_f z ⟨vk, ?_⟩
      by_cases z2 : b_plans k = 2
      · refine br_t z2 ⟨vw, br_f ?_ (br_t rfl (up_y hM k1 hp))⟩
        rcases hc with hc | hc | hc
        · exact absurd hc z
        · exact absurd z2 hc
        · exact hc
      · exact br_f z2 (br_t rfl (up_y hM k1 hp))
  -- Y: taken
  have KYt : ∀ post : Int32 → SY → Prop, post (b_variable (6 * (D - 1) + v)) (g_known, g_made, g_living, f_ups, g_less, g_depth, g_begun, g_given, g_outcome, f_brief, g_ran, g_put, g_ended, b_ops, b_as, b_bs, b_cs, b_size, b_lent, b_need, b_plans, b_keep, b_value, b_fields, b_alive, b_method, b_pc, upd b_variable (6 * (D - 1) + v) 0, b_loan, b_outs, b_ends, b_todo, b_phase) → f_brief ≠ 0 → b_plans k = 2 → b_loan (6 * (D - 1) + v) = 0 → wpY_reference post (g_known, g_made, g_living, f_ups, g_less, g_depth, g_begun, g_given, g_outcome, f_brief, g_ran, g_put, g_ended, b_ops, b_as, b_bs, b_cs, b_size, b_lent, b_need, b_plans, b_keep, b_value, b_fields, b_alive, b_method, b_pc, b_variable, b_loan, b_outs, b_ends, b_todo, b_phase) (nI k) (nI (6 * (D - 1) + v)) := by
    intro post hp z z2 z3
    unfold wpY_reference wpY_takes
    dsimp only
    rw [cw, ck]
    exact ⟨vw, nm_e (br_f z ⟨vk, br_t z2 ⟨vw, br_t z3 (br_f tl_n1' ⟨vw, nm_e hp⟩)⟩⟩)⟩
  -- X: counted
  have KXu : ∀ post : Int32 → SX → Prop, post (a_held (6 * (D - 1) + v)) (f_known, nI D, f_brief, f_outCount, f_endCount, up_u f_ups (a_held (6 * (D - 1) + v)), f_downs, f_steps, f_made, f_alive, f_gift, f_ended, f_stopped, a_length, a_lends, a_ops, a_firsts, a_seconds, a_thirds, a_need, a_loan, a_hands, a_keeps, a_come, a_numbers, a_ints, up_c a_counts (a_held (6 * (D - 1) + v)), a_fields, a_ending, a_stage, a_fMethod, a_fLine, a_held, a_lent, a_outs, a_ends) → (f_brief = 0 ∨ a_hands k = 0 ∨ bt (a_lent (D - 1)) v = true) → wpX_pass post (f_known, nI D, f_brief, f_outCount, f_endCount, f_ups, f_downs, f_steps, f_made, f_alive, f_gift, f_ended, f_stopped, a_length, a_lends, a_ops, a_firsts, a_seconds, a_thirds, a_need, a_loan, a_hands, a_keeps, a_come, a_numbers, a_ints, a_counts, a_fields, a_ending, a_stage, a_fMethod, a_fLine, a_held, a_lent, a_outs, a_ends) (nI k) (nI v) := by
    intro post hp hc
    unfold wpX_pass
    refine vg_var hD1 hD hv ?_
    rw [ck]
    by_cases z : f_brief = 0
    · exact br_t z (up_x hM k1 hp)
    · refine br_f z ⟨vk, ?_⟩
      by_cases z2 : a_hands k = 0
      · exact br_t z2 (up_x hM k1 hp)
      · refine br_f z2 (vg_isLent hD1 hD hv ?_)
        have hb : bt (a_lent (D - 1)) v = true := by
          rcases hc with hc | hc | hc
          · exact absurd hc z
          · exact absurd hc z2
          · exact hc
        rw [if_pos hb]
        exact br_f tl_n1' (up_x hM k1 hp)
  -- X: emptied
  have KXe : ∀ post : Int32 → SX → Prop, post (a_held (6 * (D - 1) + v)) (f_known, nI D, f_brief, f_outCount, f_endCount, f_ups, f_downs, f_steps, f_made, f_alive, f_gift, f_ended, f_stopped, a_length, a_lends, a_ops, a_firsts, a_seconds, a_thirds, a_need, a_loan, a_hands, a_keeps, a_come, a_numbers, a_ints, a_counts, a_fields, a_ending, a_stage, a_fMethod, a_fLine, upd a_held (6 * (D - 1) + v) (-1), upd a_lent (D - 1) (vr_le (a_lent (D - 1)) v 0), a_outs, a_ends) → f_brief ≠ 0 → a_hands k ≠ 0 → bt (a_lent (D - 1)) v = false → wpX_pass post (f_known, nI D, f_brief, f_outCount, f_endCount, f_ups, f_downs, f_steps, f_made, f_alive, f_gift, f_ended, f_stopped, a_length, a_lends, a_ops, a_firsts, a_seconds, a_thirds, a_need, a_loan, a_hands, a_keeps, a_come, a_numbers, a_ints, a_counts, a_fields, a_ending, a_stage, a_fMethod, a_fLine, a_held, a_lent, a_outs, a_ends) (nI k) (nI v) := by
    intro post hp z z2 z3
    unfold wpX_pass
    refine vg_var hD1 hD hv ?_
    rw [ck]
    refine br_f z ⟨vk, br_f z2 (vg_isLent hD1 hD hv ?_)⟩
    rw [z3, if_neg (by decide)]
    exact br_t rfl (ps_emp hD1 hD hv hmk hp)
  by_cases hc : f_brief ≠ 0 ∧ a_hands k ≠ 0 ∧ bt (a_lent (D - 1)) v = false
  · obtain ⟨z, z2, z3⟩ := hc
    have V1 := vr_up (x := -1) (y := 0) (lo := 0) hD1 hv (Or.inl ⟨rfl, rfl⟩) V
    have elo : vr_lo 0 0 = 0 := rfl
    rw [elo] at V1
    by_cases hl : b_loan (6 * (D - 1) + v) = 0
    · rw [tl_uid hl] at V1
      refine ⟨f_ups, a_counts, _, _, _, ?_, V1, Or.inr rfl, fun post hp => KXe post hp z z2 z3, fun post hp => KYt post hp z (hpl.mpr z2) hl⟩
      refine hp_cg (fun n a b => ?_) H
      have := hp_RC_u1 (gv := 0) (va := b_variable) (lo := b_loan) (D := D) (n := n) (w := 6 * (D - 1) + v) (y := 0) hw
      rw [if_pos hl, if_pos hl, hp_dl_0 a (by omega)] at this
      exact this
    · have hv0 : b_variable (6 * (D - 1) + v) = 0 := Classical.byContradiction (fun q => by
        have := (k2 q).mpr hl
        rw [z3] at this
        exact absurd this (by decide))
      have hx := r3 (r2.mpr hv0)
      rw [tl_uid hx, tl_uid hv0] at V1
      refine ⟨f_ups, a_counts, a_held, upd a_lent (D - 1) (vr_le (a_lent (D - 1)) v 0), b_variable, ?_, ?_, Or.inl rfl, fun post hp => KXe post ?_ z z2 z3, fun post hp => KYm post ?_ (Or.inr (Or.inr hl))⟩
      · refine hp_cg (fun n a b => ?_) H
        show hp_RC 0 b_variable b_loan D n + hp_dl (b_variable (6 * (D - 1) + v)) n = _
        rw [hv0, hp_dl_0 a (by omega), Nat.add_zero]
      · refine ⟨fun w hw => ⟨(V1.1 w hw).1, fun hy => ?_⟩, V1.2⟩
        have := (V1.1 w hw).2 hy
        rw [tl_un (show w ≠ 6 * (D - 1) + v from fun q => hy (by rw [q]; exact hv0))] at this
        exact this
      · rw [tl_uid hx]; exact hp
      · rw [hx, up_u, if_pos tl_m1lt]; exact hp
  · have hc' : f_brief = 0 ∨ a_hands k = 0 ∨ bt (a_lent (D - 1)) v = true := by
      by_cases z : f_brief = 0
      · exact Or.inl z
      · by_cases z2 : a_hands k = 0
        · exact Or.inr (Or.inl z2)
        · refine Or.inr (Or.inr ?_)
          cases z3 : bt (a_lent (D - 1)) v
          · exact absurd ⟨z, z2, z3⟩ hc
          · rfl
    refine ⟨up_u f_ups (a_held (6 * (D - 1) + v)), up_c a_counts (a_held (6 * (D - 1) + v)), a_held, a_lent, b_variable, up_h k1 hal H, V, Or.inl rfl, fun post hp => KXu post hp hc', fun post hp => ?_⟩
    by_cases q : f_brief = 0 ∨ b_plans k ≠ 2 ∨ b_loan (6 * (D - 1) + v) ≠ 0
    · exact KYm post hp q
    · have q1 : f_brief ≠ 0 := fun z => q (Or.inl z)
      have q2 : b_plans k = 2 := Classical.byContradiction (fun z => q (Or.inr (Or.inl z)))
      have q3 : b_loan (6 * (D - 1) + v) = 0 := Classical.byContradiction (fun z => q (Or.inr (Or.inr z)))
      have hv0 : b_variable (6 * (D - 1) + v) = 0 := Classical.byContradiction (fun z => by
        rcases hc' with hc | hc | hc
        · exact q1 hc
        · exact (hpl.mp q2) hc
        · exact ((k2 z).mp hc) q3)
      have hx := r3 (r2.mpr hv0)
      refine KYt post ?_ q1 q2 q3
      rw [tl_uid hv0]
      rw [hx, up_u, if_pos tl_m1lt] at hp
      exact hp
end
end
section
section
variable {f_known f_depth f_brief f_outCount f_endCount f_ups f_downs f_steps f_made f_alive f_gift f_ended f_stopped : Int32} {a_length a_lends a_ops a_firsts a_seconds a_thirds a_need a_loan a_hands a_keeps a_come a_numbers a_ints a_counts a_fields a_ending a_stage a_fMethod a_fLine a_held a_lent a_outs a_ends : Nat → Int32}
variable {g_known g_made g_living g_counted g_less g_depth g_begun g_given g_outcome g_isShort g_ran g_put g_ended : Int32} {b_ops b_as b_bs b_cs b_size b_lent b_need b_plans b_keep b_value b_fields b_alive b_method b_pc b_variable b_loan b_outs b_ends b_todo b_phase : Nat → Int32}
variable {D M E L S O m i : Nat} {rc : Nat → Nat}
/-! a call begins -/
def en_h (f : Nat → Int32) (D : Nat) (x y : Int32) : Nat → Int32 := fun w => if w = 6 * D then x else if 6 * D < w ∧ w < 6 * D + 6 then y else f w
theorem en_57 {post : SX → Prop} {u : SX} (hD : D < 6) (hdr : ∀ post : SX → Prop, post u → wpX_drop post (f_known, nI (D + 1), f_brief, f_outCount, f_endCount, f_ups, f_downs, f_steps, f_made, f_alive, f_gift, f_ended, f_stopped, a_length, a_lends, a_ops, a_firsts, a_seconds, a_thirds, a_need, a_loan, a_hands, a_keeps, a_come, a_numbers, a_ints, a_counts, a_fields, a_ending, a_stage, a_fMethod, a_fLine, fun w => if 6 * D < w ∧ w < 6 * D + 6 then -1 else a_held w, a_lent, a_outs, a_ends)) (hp : post u) : ∀ d k (h2 : Nat → Int32), k + d = 6 → 1 ≤ k → (∀ w, (if 6 * D + k ≤ w ∧ w < 6 * D + 6 then -1 else h2 w) = if 6 * D < w ∧ w < 6 * D + 6 then -1 else a_held w) →
    wX_enter_57 post f_known (nI D) f_brief f_outCount f_endCount f_ups f_downs f_steps f_made f_alive f_gift f_ended f_stopped (d + 1) (nI k) a_length a_lends a_ops a_firsts a_seconds a_thirds a_need a_loan a_hands a_keeps a_come a_numbers a_ints a_counts a_fields a_ending a_stage a_fMethod a_fLine h2 a_lent a_outs a_ends := by
  intro d
  induction d with
  | zero =>
    intro k h2 hk h1 hs
    have e : k = 6 := by omega
    subst e
    have eh : h2 = fun w => if 6 * D < w ∧ w < 6 * D + 6 then -1 else a_held w := by
      funext w
      rw [← hs w, if_neg (by omega)]
    rw [wX_enter_57, eh]
    exact br_t (by decide : (6 : Int32) ≤ nI 6) (nm_r (nI_1 D) (hdr _ hp))
  | succ d ih =>
    intro k h2 hk h1 hs
    have e : 6 * nI D + nI k = nI (6 * D + k) := tl_6 D k
    have c : (nI (6 * D + k)).toNatClampNeg = 6 * D + k := nI_clamp (by omega)
    rw [wX_enter_57]
    refine br_f (nI_ge (b := 6) (by omega) (by omega)) ?_
    rw [e, c, tl_nbm1]
    refine ⟨vp_in_nI (by omega) (by omega), nm_e (nm_r (nI_1 k) (ih (k + 1) _ (by omega) (by omega) (fun w => ?_)))⟩
    rw [← hs w]
    by_cases z : w = 6 * D + k
    · rw [z, tl_us, if_neg (by omega), if_pos (by omega)]
    · rw [tl_un z]
      by_cases z2 : 6 * D + k ≤ w ∧ w < 6 * D + 6
      · rw [if_pos z2, if_pos (by omega)]
      · rw [if_neg z2, if_neg (by omega)]
theorem en_x {post : SX → Prop} {u : SX} {m' : Nat} {x y lo : Int32} {nu al : Nat → Int32} (hD : D < 6) (hm : m' < 4) (hxy : hp_RW M nu al x y) (hlo : lo = 0 ∨ lo = 1)
    (hdr : ∀ post : SX → Prop, post u → wpX_drop post (f_known, nI (D + 1), f_brief, f_outCount, f_endCount, f_ups, f_downs, f_steps, f_made, f_alive, f_gift, f_ended, f_stopped, a_length, a_lends, a_ops, a_firsts, a_seconds, a_thirds, a_need, a_loan, a_hands, a_keeps, a_come, a_numbers, a_ints, a_counts, a_fields, a_ending, a_stage, upd a_fMethod D (nI m'), upd a_fLine D 0, en_h a_held D x (-1), upd a_lent D lo, a_outs, a_ends)) (hp : post u) :
    wpX_enter post (f_known, nI D, f_brief, f_outCount, f_endCount, f_ups, f_downs, f_steps, f_made, f_alive, f_gift, f_ended, f_stopped, a_length, a_lends, a_ops, a_firsts, a_seconds, a_thirds, a_need, a_loan, a_hands, a_keeps, a_come, a_numbers, a_ints, a_counts, a_fields, a_ending, a_stage, a_fMethod, a_fLine, a_held, a_lent, a_outs, a_ends) (nI m') x lo := by
  have c : (nI D).toNatClampNeg = D := nI_clamp (by omega)
  have vd : vp_in (nI D) 6 := vp_in_nI hD (by omega)
  have e6 : 6 * nI D = nI (6 * D) := tl_6a D
  have c6 : (nI (6 * D)).toNatClampNeg = 6 * D := nI_clamp (by omega)
  have K : ∀ z0 : Int32, z0 = lo → wX_enter_38 post x z0 (nI D) f_known (nI D) f_brief f_outCount f_endCount f_ups f_downs f_steps f_made f_alive f_gift f_ended f_stopped a_length a_lends a_ops a_firsts a_seconds a_thirds a_need a_loan a_hands a_keeps a_come a_numbers a_ints a_counts a_fields a_ending a_stage (upd a_fMethod D (nI m')) (upd a_fLine D 0) a_held a_lent a_outs a_ends := by
    intro z0 ez
    subst ez
    refine And.intro vd (nm_r (e' := upd a_lent D z0) ?_ ?_)
    · rcases hlo with rfl | rfl
      · rw [c]; exact congrArg _ (tl_nb (n := 0) (by omega))
      · rw [c]; exact congrArg _ (tl_nb (n := 1) (by omega))
    · rw [e6, c6]
      refine ⟨vp_in_nI (by omega) (by omega), nm_r (e' := upd a_held (6 * D) x) (by rw [vg_nb hxy]) ⟨6, ?_⟩⟩
      refine en_57 (a_held := upd a_held (6 * D) x) (u := u) hD ?_ hp 5 1 _ (by omega) (by omega) (fun w => ?_)
      · have eh : (fun w => if 6 * D < w ∧ w < 6 * D + 6 then -1 else (upd a_held (6 * D) x) w) = en_h a_held D x (-1) := by
          funext w
          unfold en_h
          by_cases z : w = 6 * D
          · rw [if_pos z, if_neg (by omega), z, tl_us]
          · rw [if_neg z, tl_un z]
        rw [eh]
        exact hdr
      · by_cases z : 6 * D + 1 ≤ w ∧ w < 6 * D + 6
        · rw [if_pos z, if_pos (by omega)]
        · rw [if_neg z, if_neg (by omega)]
  unfold wpX_enter
  dsimp only
  rw [c, tl_nb (by omega), tl_nb0]
  exact ⟨vd, nm_e ⟨vd, nm_e (br_c (fun z => K 0 z.symm) (fun z => K 1 (by rcases hlo with h | h; exact absurd h z; exact h.symm)))⟩⟩
theorem en_29 {post : SY → Prop} {x2 x3 : Int32} (hD : D < 6) (h0 : x2 = 0 ∨ ¬ x2 ≤ 0)
    (hp : post (g_known, g_made, g_living, g_counted, g_less, nI (D + 1), g_begun, g_given, g_outcome, g_isShort, g_ran, g_put, g_ended, b_ops, b_as, b_bs, b_cs, b_size, b_lent, b_need, b_plans, b_keep, b_value, b_fields, b_alive, b_method, b_pc, en_h b_variable D x2 0, en_h b_loan D (vr_lo x3 x2) 0, b_outs, b_ends, b_todo, b_phase)) : ∀ d k (v2 l2 : Nat → Int32), k + d = 6 → (∀ w, (if 6 * D + k ≤ w ∧ w < 6 * D + 6 then 0 else v2 w) = if 6 * D ≤ w ∧ w < 6 * D + 6 then 0 else b_variable w) → (∀ w, (if 6 * D + k ≤ w ∧ w < 6 * D + 6 then 0 else l2 w) = if 6 * D ≤ w ∧ w < 6 * D + 6 then 0 else b_loan w) →
    wY_enter_29 post x2 x3 g_known g_made g_living g_counted g_less (nI D) g_begun g_given g_outcome g_isShort g_ran g_put g_ended (d + 1) (nI (6 * D + k)) b_ops b_as b_bs b_cs b_size b_lent b_need b_plans b_keep b_value b_fields b_alive b_method b_pc v2 l2 b_outs b_ends b_todo b_phase := by
  intro d
  have e6 : 6 * nI D = nI (6 * D) := tl_6a D
  have c6 : (nI (6 * D)).toNatClampNeg = 6 * D := nI_clamp (by omega)
  have v6 : vp_in (nI (6 * D)) 36 := vp_in_nI (by omega) (by omega)
  have e66 : nI (6 * D) + 6 = nI (6 * D + 6) := nI_add (6 * D) 6
  induction d with
  | zero =>
    intro k v2 l2 hk hv hl
    have e : k = 6 := by omega
    subst e
    have ev : upd v2 (6 * D) x2 = en_h b_variable D x2 0 := by
      funext w
      have := hv w
      unfold en_h
      by_cases z : w = 6 * D
      · rw [if_pos z, z, tl_us]
      · rw [if_neg z, tl_un z]
        rw [if_neg (by omega)] at this
        rw [this]
        by_cases z2 : 6 * D ≤ w ∧ w < 6 * D + 6
        · rw [if_pos z2, if_pos (by omega)]
        · rw [if_neg z2, if_neg (by omega)]
    have el : ∀ q, upd l2 (6 * D) q = en_h b_loan D q 0 := by
      intro q
      funext w
      have := hl w
      unfold en_h
      by_cases z : w = 6 * D
      · rw [if_pos z, z, tl_us]
      · rw [if_neg z, tl_un z]
        rw [if_neg (by omega)] at this
        rw [this]
        by_cases z2 : 6 * D ≤ w ∧ w < 6 * D + 6
        · rw [if_pos z2, if_pos (by omega)]
        · rw [if_neg z2, if_neg (by omega)]
    have K : ∀ q : Int32, (q = 0 ∨ q = 1) → q = vr_lo x3 x2 → wY_enter_103 post q (nI (6 * D)) g_known g_made g_living g_counted g_less (nI D) g_begun g_given g_outcome g_isShort g_ran g_put g_ended b_ops b_as b_bs b_cs b_size b_lent b_need b_plans b_keep b_value b_fields b_alive b_method b_pc (en_h b_variable D x2 0) l2 b_outs b_ends b_todo b_phase := by
      intro q hq eq
      refine And.intro v6 (nm_r (e' := en_h b_loan D (vr_lo x3 x2) 0) ?_ (nm_r (nI_1 D) hp))
      rw [c6, ← eq, ← el q]
      rcases hq with rfl | rfl
      · rw [tl_nz0]
      · rw [tl_nz1]
    rw [wY_enter_29, e6, e66]
    refine br_t (nI_le (by omega) (by omega)) ⟨v6, nm_r (e' := en_h b_variable D x2 0) (by rw [c6]; exact ev) (br_c (fun z => K 0 (Or.inl rfl) ?_) (fun z => br_c (fun z2 => K 0 (Or.inl rfl) ?_) (fun z2 => K 1 (Or.inr rfl) ?_)))⟩
    · unfold vr_lo; rw [if_pos z]
    · unfold vr_lo
      rw [if_neg z, if_pos]
      rcases h0 with h | h
      · exact h
      · exact absurd z2 h
    · unfold vr_lo
      rw [if_neg z, if_neg (fun q => z2 (by rw [q]; decide))]
  | succ d ih =>
    intro k v2 l2 hk hv hl
    have c : (nI (6 * D + k)).toNatClampNeg = 6 * D + k := nI_clamp (by omega)
    have vk : vp_in (nI (6 * D + k)) 36 := vp_in_nI (by omega) (by omega)
    rw [wY_enter_29, e6, e66]
    refine br_f (nI_ge (by omega) (by omega)) ?_
    rw [c, tl_nz0]
    have hst : ∀ (f g : Nat → Int32), (∀ w, (if 6 * D + k ≤ w ∧ w < 6 * D + 6 then 0 else f w) = if 6 * D ≤ w ∧ w < 6 * D + 6 then 0 else g w) → ∀ w, (if 6 * D + (k + 1) ≤ w ∧ w < 6 * D + 6 then 0 else (upd f (6 * D + k) 0) w) = if 6 * D ≤ w ∧ w < 6 * D + 6 then 0 else g w := by
      intro f g hs w
      rw [← hs w]
      by_cases z : w = 6 * D + k
      · rw [z, tl_us, if_neg (by omega), if_pos (by omega)]
      · rw [tl_un z]
        by_cases z2 : 6 * D + k ≤ w ∧ w < 6 * D + 6
        · rw [if_pos z2, if_pos (by omega)]
        · rw [if_neg z2, if_neg (by omega)]
    exact ⟨vk, nm_e ⟨vk, nm_e (nm_r (nI_1 (6 * D + k)) (ih (k + 1) _ _ (by omega) (hst _ _ hv) (hst _ _ hl)))⟩⟩
theorem en_y {post : SY → Prop} {m' : Nat} {x y lo : Int32} {nu al : Nat → Int32} (hD : D < 6) (hM : M ≤ 300) (hxy : hp_RW M nu al x y)
    (hp : post (g_known, g_made, g_living, g_counted, g_less, nI (D + 1), g_begun, g_given, g_outcome, g_isShort, g_ran, g_put, g_ended, b_ops, b_as, b_bs, b_cs, b_size, b_lent, b_need, b_plans, b_keep, b_value, b_fields, b_alive, upd b_method D (nI m'), upd b_pc D 0, en_h b_variable D y 0, en_h b_loan D (vr_lo lo y) 0, b_outs, b_ends, b_todo, b_phase)) :
    wpY_enter post (g_known, g_made, g_living, g_counted, g_less, nI D, g_begun, g_given, g_outcome, g_isShort, g_ran, g_put, g_ended, b_ops, b_as, b_bs, b_cs, b_size, b_lent, b_need, b_plans, b_keep, b_value, b_fields, b_alive, b_method, b_pc, b_variable, b_loan, b_outs, b_ends, b_todo, b_phase) (nI m') y lo := by
  have c : (nI D).toNatClampNeg = D := nI_clamp (by omega)
  have vd : vp_in (nI D) 6 := vp_in_nI hD (by omega)
  have h0 : y = 0 ∨ ¬ y ≤ 0 := by
    rcases hxy with ⟨_, e⟩ | ⟨_, t, _, h1, hM', _, e, _⟩
    · exact Or.inl e
    · rw [e]; exact Or.inr (nI_nle h1 (by omega))
  unfold wpY_enter
  dsimp only
  rw [c]
  exact ⟨vd, nm_e ⟨vd, nm_e (nm_r (tl_6a D) ⟨7, en_29 hD h0 hp 6 0 _ _ (by omega) (fun w => by rw [Nat.add_zero]) (fun w => by rw [Nat.add_zero])⟩)⟩⟩
/-- variables in the new call -/
theorem en_V {x y lo : Int32} (hlo : lo = 0 ∨ lo = 1) (hxy : hp_RW M a_numbers b_alive x y) (V : vr_V D M a_numbers b_alive a_held a_lent b_variable b_loan) :
    vr_V (D + 1) M a_numbers b_alive (en_h a_held D x (-1)) (upd a_lent D lo) (en_h b_variable D y 0) (en_h b_loan D (vr_lo lo y) 0) := by
  refine ⟨fun w hw => ?_, fun d hd => ?_⟩
  · unfold en_h
    by_cases z : w = 6 * D
    · rw [if_pos z, if_pos z, if_pos z, z, show 6 * D / 6 = D by omega, show 6 * D % 6 = 0 by omega, tl_us]
      refine ⟨hxy, fun hy => ?_⟩
      unfold vr_lo
      rcases hlo with rfl | rfl
      · rw [if_pos rfl, b_0]
        exact ⟨fun q => absurd q (by decide), fun q => absurd rfl q⟩
      · rw [if_neg tl_n1', if_neg hy]
        exact ⟨fun _ => tl_n1, fun _ => by decide⟩
    · rw [if_neg z, if_neg z, if_neg z]
      by_cases z2 : 6 * D < w ∧ w < 6 * D + 6
      · rw [if_pos z2, if_pos z2, if_pos z2]
        exact ⟨Or.inl ⟨rfl, rfl⟩, fun q => absurd rfl q⟩
      · rw [if_neg z2, if_neg z2, if_neg z2]
        rw [tl_un (show w / 6 ≠ D by omega)]
        exact V.1 w (by omega)
  · by_cases z : d = D
    · rw [z, tl_us]
      rcases hlo with rfl | rfl
      · exact mk_0 6
      · intro j hj
        rcases Nat.lt_or_ge j 32 with h | h
        · exact (by decide : ∀ j, j < 32 → 6 ≤ j → bt 1 j = false) j h hj
        · exact b_big h
    · rw [tl_un z]
      exact V.2 d (by omega)
theorem en_sm6 (f : Nat → Nat) (k : Nat) : sm f (k + 6) = sm f k + f k + f (k + 1) + f (k + 2) + f (k + 3) + f (k + 4) + f (k + 5) := rfl
/-- root counts in the new call -/
theorem en_RC {n : Nat} {gv y lo : Int32} (hn1 : 1 ≤ n) (hn : n < 2 ^ 31) : hp_RC gv (en_h b_variable D y 0) (en_h b_loan D (vr_lo lo y) 0) (D + 1) n = hp_RC gv b_variable b_loan D n + (if lo = 0 then hp_dl y n else 0) := by
  unfold hp_RC
  rw [show 6 * (D + 1) = 6 * D + 6 by omega, en_sm6]
  have e0 : sm (hp_vl (en_h b_variable D y 0) (en_h b_loan D (vr_lo lo y) 0) n) (6 * D) = sm (hp_vl b_variable b_loan n) (6 * D) := sm_cg (fun w hw => by
    unfold hp_vl en_h
    rw [if_neg (show ¬ w = 6 * D by omega), if_neg (show ¬ (6 * D < w ∧ w < 6 * D + 6) by omega), if_neg (show ¬ w = 6 * D by omega), if_neg (show ¬ (6 * D < w ∧ w < 6 * D + 6) by omega)])
  have ez : ∀ w, 6 * D < w → w < 6 * D + 6 → hp_vl (en_h b_variable D y 0) (en_h b_loan D (vr_lo lo y) 0) n w = 0 := fun w h1 h2 => by
    unfold hp_vl en_h
    rw [if_neg (show ¬ w = 6 * D by omega), if_pos (show 6 * D < w ∧ w < 6 * D + 6 by omega), if_neg (show ¬ w = 6 * D by omega), if_pos (show 6 * D < w ∧ w < 6 * D + 6 by omega), if_pos rfl, hp_dl_0 hn1 hn]
  have ef : hp_vl (en_h b_variable D y 0) (en_h b_loan D (vr_lo lo y) 0) n (6 * D) = if lo = 0 then hp_dl y n else 0 := by
    unfold hp_vl en_h
    rw [if_pos rfl, if_pos rfl]
    unfold vr_lo
    by_cases z : lo = 0
    · rw [if_pos z, if_pos z, if_pos rfl]
    · rw [if_neg z, if_neg z]
      by_cases q : y = 0
      · rw [if_pos q, if_pos rfl, q, hp_dl_0 hn1 hn]
      · rw [if_neg q, if_neg tl_n1']
  rw [e0, ef, ez _ (by omega) (by omega), ez _ (by omega) (by omega), ez _ (by omega) (by omega), ez _ (by omega) (by omega), ez _ (by omega) (by omega)]
  omega
/-- loans in the new call: the parameter may be one, guarded by a variable of the caller -/
theorem en_LP {y lo : Int32} (hpr : lo ≠ 0 → y ≠ 0 → f_brief ≠ 0 ∧ ∃ w', w' < 6 * D ∧ b_loan w' = 0 ∧ b_variable w' = y) (h : rn_LP f_brief D b_variable b_loan) : rn_LP f_brief (D + 1) (en_h b_variable D y 0) (en_h b_loan D (vr_lo lo y) 0) := by
  have eo : ∀ (f : Nat → Int32) a b w, w < 6 * D → en_h f D a b w = f w := fun f a b w hw => by
    unfold en_h
    rw [if_neg (show ¬ w = 6 * D by omega), if_neg (show ¬ (6 * D < w ∧ w < 6 * D + 6) by omega)]
  intro w hw hl hv
  by_cases z : w < 6 * D
  · rw [eo _ _ _ w z] at hl hv
    obtain ⟨hb, w', h1, h2, h3⟩ := h w z hl hv
    exact ⟨hb, w', h1, by rw [eo _ _ _ w' (by omega)]; exact h2, by rw [eo _ _ _ w' (by omega), eo _ _ _ w z]; exact h3⟩
  · by_cases z2 : w = 6 * D
    · have e1 : en_h b_loan D (vr_lo lo y) 0 w = vr_lo lo y := by unfold en_h; rw [if_pos z2]
      have e2 : en_h b_variable D y 0 w = y := by unfold en_h; rw [if_pos z2]
      rw [e1] at hl
      rw [e2] at hv
      have hlo : lo ≠ 0 := fun q => hl (by unfold vr_lo; rw [if_pos q])
      obtain ⟨hb, w', h1, h2, h3⟩ := hpr hlo hv
      exact ⟨hb, w', by omega, by rw [eo _ _ _ w' h1]; exact h2, by rw [eo _ _ _ w' h1, e2]; exact h3⟩
    · have e2 : en_h b_variable D y 0 w = 0 := by unfold en_h; rw [if_neg z2, if_pos (by omega)]
      rw [e2] at hv
      exact absurd rfl hv
end
end
section
section
variable {f_known f_depth f_brief f_outCount f_endCount f_ups f_downs f_steps f_made f_alive f_gift f_ended f_stopped : Int32} {a_length a_lends a_ops a_firsts a_seconds a_thirds a_need a_loan a_hands a_keeps a_come a_numbers a_ints a_counts a_fields a_ending a_stage a_fMethod a_fLine a_held a_lent a_outs a_ends : Nat → Int32}
variable {g_known g_made g_living g_counted g_less g_depth g_begun g_given g_outcome g_isShort g_ran g_put g_ended : Int32} {b_ops b_as b_bs b_cs b_size b_lent b_need b_plans b_keep b_value b_fields b_alive b_method b_pc b_variable b_loan b_outs b_ends b_todo b_phase : Nat → Int32}
variable {D M E L S O m i : Nat} {rc : Nat → Nat}
def qv_f (f : Nat → Int32) (D v : Nat) : Nat → Int32 := fun w => if 6 * (D - 1) + v ≤ w ∧ w < 6 * D then 0 else f w
theorem qv_f6 {f : Nat → Int32} (hD1 : 1 ≤ D) : qv_f f D 6 = f := by
  funext w
  unfold qv_f
  rw [if_neg (by omega)]
theorem qv_fs {f : Nat → Int32} {v : Nat} (hD1 : 1 ≤ D) (hv : v < 6) : qv_f (upd f (6 * (D - 1) + v) 0) D (v + 1) = qv_f f D v := by
  funext w
  unfold qv_f
  by_cases z : w = 6 * (D - 1) + v
  · rw [z, tl_us, if_neg (by omega), if_pos (by omega)]
  · rw [tl_un z]
    by_cases z2 : 6 * (D - 1) + v ≤ w ∧ w < 6 * D
    · rw [if_pos z2, if_pos (by omega)]
    · rw [if_neg z2, if_neg (by omega)]
theorem qv_flo {f : Nat → Int32} {v w : Nat} (hw : w < 6 * (D - 1)) : qv_f f D v w = f w := by
  unfold qv_f
  rw [if_neg (by omega)]
theorem qv_loop {x1 : Int32} (hD1 : 1 ≤ D) (hD : D ≤ 6) : ∀ (d v : Nat) (E L : Nat) (f_downs : Int32) (a_numbers a_counts a_fields a_ending a_stage a_ends b_fields b_alive b_todo b_phase a_held a_lent b_variable b_loan : Nat → Int32), v + d = 6 → HR M E L 0 (hp_RC g_given b_variable b_loan D) a_numbers a_ints a_counts a_fields a_ending a_stage b_value b_fields b_alive b_todo b_phase → vr_V D M a_numbers b_alive a_held a_lent b_variable b_loan →
    ∃ (E' L' : Nat) (f_downs' : Int32) (a_numbers' a_counts' a_fields' a_ending' a_stage' a_ends' b_fields' b_alive' b_todo' b_phase' a_held' a_lent' : Nat → Int32), HR M E' L' 0 (hp_RC g_given (qv_f b_variable D v) (qv_f b_loan D v) D) a_numbers' a_ints a_counts' a_fields' a_ending' a_stage' b_value b_fields' b_alive' b_todo' b_phase' ∧ hp_HM M a_numbers b_fields b_alive a_numbers' b_fields' b_alive' ∧ vr_V D M a_numbers' b_alive' a_held' a_lent' (qv_f b_variable D v) (qv_f b_loan D v) ∧
      (∀ (post : SX → Prop) n, wX_leave_2 post x1 n (nI 6) f_known (nI D) f_brief f_outCount (nI E') f_ups f_downs' f_steps f_made (nI L') f_gift f_ended f_stopped a_length a_lends a_ops a_firsts a_seconds a_thirds a_need a_loan a_hands a_keeps a_come a_numbers' a_ints a_counts' a_fields' a_ending' a_stage' a_fMethod a_fLine a_held' a_lent' a_outs a_ends' → wX_leave_2 post x1 (n + d) (nI v) f_known (nI D) f_brief f_outCount (nI E) f_ups f_downs f_steps f_made (nI L) f_gift f_ended f_stopped a_length a_lends a_ops a_firsts a_seconds a_thirds a_need a_loan a_hands a_keeps a_come a_numbers a_ints a_counts a_fields a_ending a_stage a_fMethod a_fLine a_held a_lent a_outs a_ends) ∧
      (∀ (post : SY → Prop) n, wY_leave_12 post (nI (D - 1)) n (nI (6 * (D - 1) + 6)) g_known (nI M) (nI L') g_counted f_downs' (nI D) g_begun g_given g_outcome g_isShort g_ran g_put (nI E') b_ops b_as b_bs b_cs b_size b_lent b_need b_plans b_keep b_value b_fields' b_alive' b_method b_pc (qv_f b_variable D v) (qv_f b_loan D v) b_outs a_ends' b_todo' b_phase' → wY_leave_12 post (nI (D - 1)) (n + d) (nI (6 * (D - 1) + v)) g_known (nI M) (nI L) g_counted f_downs (nI D) g_begun g_given g_outcome g_isShort g_ran g_put (nI E) b_ops b_as b_bs b_cs b_size b_lent b_need b_plans b_keep b_value b_fields b_alive b_method b_pc b_variable b_loan b_outs a_ends b_todo b_phase) := by
  intro d
  induction d with
  | zero =>
    intro v E L f_downs a_numbers a_counts a_fields a_ending a_stage a_ends b_fields b_alive b_todo b_phase a_held a_lent b_variable b_loan hv H V
    have e : v = 6 := by omega
    subst e
    rw [qv_f6 hD1, qv_f6 hD1]
    exact ⟨E, L, f_downs, a_numbers, a_counts, a_fields, a_ending, a_stage, a_ends, b_fields, b_alive, b_todo, b_phase, a_held, a_lent, H, hp_HM_r, V, fun _ _ h => h, fun _ _ h => h⟩
  | succ d ih =>
    intro v E L f_downs a_numbers a_counts a_fields a_ending a_stage a_ends b_fields b_alive b_todo b_phase a_held a_lent b_variable b_loan hv H V
    have h6 : ¬ (6 : Int32) ≤ nI v := nI_ge (b := 6) (by omega) (by omega)
    obtain ⟨E1, L1, f_downs1, a_numbers1, a_counts1, a_fields1, a_ending1, a_stage1, a_ends1, b_fields1, b_alive1, b_todo1, b_phase1, a_held1, a_lent1, H1, hm1, V1, hX1, hY1⟩ := rn_clr (f_known := f_known) (f_brief := f_brief) (f_outCount := f_outCount) (f_ups := f_ups) (f_steps := f_steps) (f_gift := f_gift) (f_ended := f_ended) (f_stopped := f_stopped) (a_length := a_length) (a_lends := a_lends) (a_ops := a_ops) (a_firsts := a_firsts) (a_seconds := a_seconds) (a_thirds := a_thirds) (a_need := a_need) (a_loan := a_loan) (a_hands := a_hands) (a_keeps := a_keeps) (a_come := a_come) (a_fMethod := a_fMethod) (a_fLine := a_fLine) (a_held := a_held) (a_lent := a_lent) (a_outs := a_outs) (g_known := g_known) (g_counted := g_counted) (g_begun := g_begun) (g_outcome := g_outcome) (g_isShort := g_isShort) (g_ran := g_ran) (g_put := g_put) (b_ops := b_ops) (b_as := b_as) (b_bs := b_bs) (b_cs := b_cs) (b_size := b_size) (b_lent := b_lent) (b_need := b_need) (b_plans := b_plans) (b_keep := b_keep) (b_method := b_method) (b_pc := b_pc) (b_variable := b_variable) (b_loan := b_loan) (b_outs := b_outs) (f_made := f_made) (f_downs := f_downs) (a_ends := a_ends) (v := v) hD1 hD (by omega) V H
    obtain ⟨E', L', f_downs', a_numbers', a_counts', a_fields', a_ending', a_stage', a_ends', b_fields', b_alive', b_todo', b_phase', a_held', a_lent', H2, hm2, V2, hX2, hY2⟩ := ih (v + 1) E1 L1 f_downs1 a_numbers1 a_counts1 a_fields1 a_ending1 a_stage1 a_ends1 b_fields1 b_alive1 b_todo1 b_phase1 a_held1 a_lent1 (upd b_variable (6 * (D - 1) + v) 0) (upd b_loan (6 * (D - 1) + v) 0) (by omega) H1 V1
    rw [qv_fs hD1 (by omega), qv_fs hD1 (by omega)] at H2 V2
    rw [qv_fs hD1 (by omega), qv_fs hD1 (by omega)] at hY2
    refine ⟨E', L', f_downs', a_numbers', a_counts', a_fields', a_ending', a_stage', a_ends', b_fields', b_alive', b_todo', b_phase', a_held', a_lent', H2, hp_HM_t hm1 hm2, V2, fun post n h => ?_, fun post n h => ?_⟩
    · rw [show n + (d + 1) = n + d + 1 from rfl, wX_leave_2]
      exact br_f h6 (vg_var hD1 hD (by omega) (hX1 (fun u => match u with | (f_known, f_depth, f_brief, f_outCount, f_endCount, f_ups, f_downs, f_steps, f_made, f_alive, f_gift, f_ended, f_stopped, a_length, a_lends, a_ops, a_firsts, a_seconds, a_thirds, a_need, a_loan, a_hands, a_keeps, a_come, a_numbers, a_ints, a_counts, a_fields, a_ending, a_stage, a_fMethod, a_fLine, a_held, a_lent, a_outs, a_ends) => ∀ y : Int32, y = nI v + 1 → wX_leave_2 post x1 (n + d) y f_known f_depth f_brief f_outCount f_endCount f_ups f_downs f_steps f_made f_alive f_gift f_ended f_stopped a_length a_lends a_ops a_firsts a_seconds a_thirds a_need a_loan a_hands a_keeps a_come a_numbers a_ints a_counts a_fields a_ending a_stage a_fMethod a_fLine a_held a_lent a_outs a_ends) (nm_r (nI_1 v) (hX2 post n h))))
    · rw [show n + (d + 1) = n + d + 1 from rfl, wY_leave_12]
      refine br_f ?_ ?_
      · rw [tl_6a, show (6 : Int32) = nI 6 from rfl, nI_add]
        exact nI_ge (by omega) (by omega)
      · exact hY1 _ (nm_r (nI_1 _) (hY2 post n h))
theorem qv_RCd {n : Nat} {gv : Int32} (hn1 : 1 ≤ n) (hn : n < 2 ^ 31) : hp_RC gv (qv_f b_variable (D + 1) 0) b_loan (D + 1) n = hp_RC gv (qv_f b_variable (D + 1) 0) b_loan D n := by
  unfold hp_RC
  rw [show 6 * (D + 1) = 6 * D + 6 by omega, en_sm6]
  have ez : ∀ w, 6 * D ≤ w → w < 6 * D + 6 → hp_vl (qv_f b_variable (D + 1) 0) b_loan n w = 0 := fun w h1 h2 => by
    unfold hp_vl qv_f
    rw [if_pos (show 6 * (D + 1 - 1) + 0 ≤ w ∧ w < 6 * (D + 1) by omega), hp_dl_0 hn1 hn, ite_self]
  rw [ez _ (by omega) (by omega), ez _ (by omega) (by omega), ez _ (by omega) (by omega), ez _ (by omega) (by omega), ez _ (by omega) (by omega), ez _ (by omega) (by omega)]
  omega
theorem qv_RCg {n : Nat} {gv : Int32} (hn1 : 1 ≤ n) (hn : n < 2 ^ 31) : hp_RC gv b_variable b_loan D n = hp_RC 0 b_variable b_loan D n + hp_dl gv n := by
  unfold hp_RC
  rw [hp_dl_0 hn1 hn]
  omega
/-- the run's first call is over -/
theorem qv_done {x1 : Int32} (hxy : hp_RW M a_numbers b_alive x1 g_given) (V : vr_V 1 M a_numbers b_alive a_held a_lent b_variable b_loan) (H : HR M E L 0 (hp_RC g_given b_variable b_loan 1) a_numbers a_ints a_counts a_fields a_ending a_stage b_value b_fields b_alive b_todo b_phase) :
    ∃ (E' L' : Nat) (f_downs' : Int32) (a_numbers' a_counts' a_fields' a_ending' a_stage' a_ends' b_fields' b_alive' b_todo' b_phase' a_held' a_lent' : Nat → Int32), HR M E' L' 0 (hp_RC g_given (qv_f b_variable 1 0) (qv_f b_loan 1 0) 0) a_numbers' a_ints a_counts' a_fields' a_ending' a_stage' b_value b_fields' b_alive' b_todo' b_phase' ∧
      (∀ (post : SX → Prop), post (f_known, 0, f_brief, f_outCount, nI E', f_ups, f_downs', f_steps, f_made, nI L', g_given, 0, f_stopped, a_length, a_lends, a_ops, a_firsts, a_seconds, a_thirds, a_need, a_loan, a_hands, a_keeps, a_come, a_numbers', a_ints, a_counts', a_fields', a_ending', a_stage', a_fMethod, a_fLine, a_held', a_lent', a_outs, a_ends') → wpX_leave post (f_known, nI 1, f_brief, f_outCount, nI E, f_ups, f_downs, f_steps, f_made, nI L, f_gift, f_ended, f_stopped, a_length, a_lends, a_ops, a_firsts, a_seconds, a_thirds, a_need, a_loan, a_hands, a_keeps, a_come, a_numbers, a_ints, a_counts, a_fields, a_ending, a_stage, a_fMethod, a_fLine, a_held, a_lent, a_outs, a_ends) x1) ∧
      (∀ (post : SY → Prop), post (g_known, nI M, nI L', g_counted, f_downs', 0, g_begun, g_given, 0, g_isShort, g_ran, g_put, nI E', b_ops, b_as, b_bs, b_cs, b_size, b_lent, b_need, b_plans, b_keep, b_value, b_fields', b_alive', b_method, b_pc, qv_f b_variable 1 0, qv_f b_loan 1 0, b_outs, a_ends', b_todo', b_phase') → wpY_leave post (g_known, nI M, nI L, g_counted, f_downs, nI 1, g_begun, g_given, g_outcome, g_isShort, g_ran, g_put, nI E, b_ops, b_as, b_bs, b_cs, b_size, b_lent, b_need, b_plans, b_keep, b_value, b_fields, b_alive, b_method, b_pc, b_variable, b_loan, b_outs, a_ends, b_todo, b_phase)) := by
  obtain ⟨E', L', f_downs', a_numbers', a_counts', a_fields', a_ending', a_stage', a_ends', b_fields', b_alive', b_todo', b_phase', a_held', a_lent', H2, hm2, V2, hX2, hY2⟩ := qv_loop (f_known := f_known) (f_brief := f_brief) (f_outCount := f_outCount) (f_ups := f_ups) (f_steps := f_steps) (f_gift := f_gift) (f_ended := f_ended) (f_stopped := f_stopped) (a_length := a_length) (a_lends := a_lends) (a_ops := a_ops) (a_firsts := a_firsts) (a_seconds := a_seconds) (a_thirds := a_thirds) (a_need := a_need) (a_loan := a_loan) (a_hands := a_hands) (a_keeps := a_keeps) (a_come := a_come) (a_fMethod := a_fMethod) (a_fLine := a_fLine) (a_outs := a_outs) (g_known := g_known) (g_counted := g_counted) (g_begun := g_begun) (g_outcome := g_outcome) (g_isShort := g_isShort) (g_ran := g_ran) (g_put := g_put) (b_ops := b_ops) (b_as := b_as) (b_bs := b_bs) (b_cs := b_cs) (b_size := b_size) (b_lent := b_lent) (b_need := b_need) (b_plans := b_plans) (b_keep := b_keep) (b_method := b_method) (b_pc := b_pc) (b_outs := b_outs) (f_made := f_made) (x1 := x1) (D := 1) (by omega) (by omega) 6 0 E L f_downs a_numbers a_counts a_fields a_ending a_stage a_ends b_fields b_alive b_todo b_phase a_held a_lent b_variable b_loan rfl H V
  obtain ⟨hL24, hEL, hM⟩ := hp_L24 H
  have H3 : HR M E' L' 0 (hp_RC g_given (qv_f b_variable 1 0) (qv_f b_loan 1 0) 0) a_numbers' a_ints a_counts' a_fields' a_ending' a_stage' b_value b_fields' b_alive' b_todo' b_phase' := hp_cg (fun n a b => (qv_RCd (D := 0) a (by omega)).symm) H2
  refine ⟨E', L', f_downs', a_numbers', a_counts', a_fields', a_ending', a_stage', a_ends', b_fields', b_alive', b_todo', b_phase', a_held', a_lent', H3, fun post hp => ⟨7, hX2 post 1 ?_⟩, fun post hp => nm_r (e' := nI 0) (by decide) (nm_r (e' := nI 0) (by decide) ⟨7, hY2 post 1 ?_⟩)⟩
  · rw [wX_leave_2]
    refine br_t (by decide : (6 : Int32) ≤ nI 6) (nm_r (e' := 0) (by decide) (br_t rfl ?_))
    rcases hp_RW_m hm2 hxy with ⟨e, e2⟩ | ⟨q, t, hq, h1, hM', e, e2, hn⟩
    · rw [e]
      rw [e2] at hp
      exact br_f tl_m1le hp
    · rw [e]
      have hal := (hp_al h1 (by omega) H3 (by
        have : hp_dl g_given t = 1 := by rw [e2, hp_dl_s]
        unfold hp_RC
        omega)).2
      refine br_t (nI_pos' (by omega)) ⟨vp_in_nI hq (by omega), nm_r (e' := g_given) ?_ hp⟩
      rw [nI_clamp (by omega), hn hal, e2]
  · rw [wY_leave_12]
    exact br_t (by decide : 6 * nI 0 + 6 ≤ nI 6) (br_t (by decide) hp)
theorem gt_x {post : SX → Prop} {u : SX} {j : Nat} (hD1 : 1 ≤ D) (hD : D ≤ 6) (hj : j < 128) (hdr : ∀ post : SX → Prop, post u → wpX_drop post (f_known, nI D, f_brief, f_outCount, f_endCount, f_ups, f_downs, f_steps, f_made, f_alive, f_gift, f_ended, f_stopped, a_length, a_lends, a_ops, a_firsts, a_seconds, a_thirds, a_need, a_loan, a_hands, a_keeps, a_come, a_numbers, a_ints, a_counts, a_fields, a_ending, a_stage, a_fMethod, upd a_fLine (D - 1) (nI j), a_held, a_lent, a_outs, a_ends)) (hp : post u) : wpX_goTo post (f_known, nI D, f_brief, f_outCount, f_endCount, f_ups, f_downs, f_steps, f_made, f_alive, f_gift, f_ended, f_stopped, a_length, a_lends, a_ops, a_firsts, a_seconds, a_thirds, a_need, a_loan, a_hands, a_keeps, a_come, a_numbers, a_ints, a_counts, a_fields, a_ending, a_stage, a_fMethod, a_fLine, a_held, a_lent, a_outs, a_ends) (nI j) := by
  have ed : nI D - 1 = nI (D - 1) := tl_pred hD1
  have cd : (nI (D - 1)).toNatClampNeg = D - 1 := nI_clamp (by omega)
  have vd : vp_in (nI (D - 1)) 6 := vp_in_nI (by omega) (by omega)
  unfold wpX_goTo
  dsimp only
  rw [ed, cd, tl_nb hj]
  exact ⟨vd, nm_e (hdr _ hp)⟩
/-- a call is over, its caller goes on -/
theorem qv_ret {x1 : Int32} {a : Nat} (hD1 : 1 ≤ D) (hD : D < 6) (hm : m < 4) (hi : i < 16) (eM : a_fMethod (D - 1) = nI m) (eL : a_fLine (D - 1) = nI i) (eM' : b_method (D - 1) = nI m) (eL' : b_pc (D - 1) = nI i) (ha : a < 6) (ea : a_firsts (16 * m + i) = nI a) (eb : b_as (16 * m + i) = nI a)
    (hxy : hp_RW M a_numbers b_alive x1 g_given) (V : vr_V (D + 1) M a_numbers b_alive a_held a_lent b_variable b_loan) (H : HR M E L 0 (hp_RC g_given b_variable b_loan (D + 1)) a_numbers a_ints a_counts a_fields a_ending a_stage b_value b_fields b_alive b_todo b_phase) :
    ∃ (E' L' : Nat) (f_downs' : Int32) (a_numbers' a_counts' a_fields' a_ending' a_stage' a_ends' b_fields' b_alive' b_todo' b_phase' a_held' a_lent' : Nat → Int32), HR M E' L' 0 (hp_RC 0 (upd (qv_f b_variable (D + 1) 0) (6 * (D - 1) + a) g_given) (upd (qv_f b_loan (D + 1) 0) (6 * (D - 1) + a) 0) D) a_numbers' a_ints a_counts' a_fields' a_ending' a_stage' b_value b_fields' b_alive' b_todo' b_phase' ∧ hp_HM M a_numbers b_fields b_alive a_numbers' b_fields' b_alive' ∧
      vr_V D M a_numbers' b_alive' a_held' a_lent' (upd (qv_f b_variable (D + 1) 0) (6 * (D - 1) + a) g_given) (upd (qv_f b_loan (D + 1) 0) (6 * (D - 1) + a) 0) ∧
      (∀ u : SX, (∀ post : SX → Prop, post u → wpX_drop post (f_known, nI D, f_brief, f_outCount, nI E', f_ups, f_downs', f_steps, f_made, nI L', f_gift, f_ended, f_stopped, a_length, a_lends, a_ops, a_firsts, a_seconds, a_thirds, a_need, a_loan, a_hands, a_keeps, a_come, a_numbers', a_ints, a_counts', a_fields', a_ending', a_stage', a_fMethod, upd a_fLine (D - 1) (nI (i + 1)), a_held', a_lent', a_outs, a_ends')) → ∀ post : SX → Prop, post u → wpX_leave post (f_known, nI (D + 1), f_brief, f_outCount, nI E, f_ups, f_downs, f_steps, f_made, nI L, f_gift, f_ended, f_stopped, a_length, a_lends, a_ops, a_firsts, a_seconds, a_thirds, a_need, a_loan, a_hands, a_keeps, a_come, a_numbers, a_ints, a_counts, a_fields, a_ending, a_stage, a_fMethod, a_fLine, a_held, a_lent, a_outs, a_ends) x1) ∧
      (∀ (post : SY → Prop), post (g_known, nI M, nI L', g_counted, f_downs', nI D, g_begun, 0, g_outcome, g_isShort, g_ran, g_put, nI E', b_ops, b_as, b_bs, b_cs, b_size, b_lent, b_need, b_plans, b_keep, b_value, b_fields', b_alive', b_method, upd b_pc (D - 1) (nI (i + 1)), upd (qv_f b_variable (D + 1) 0) (6 * (D - 1) + a) g_given, upd (qv_f b_loan (D + 1) 0) (6 * (D - 1) + a) 0, b_outs, a_ends', b_todo', b_phase') → wpY_leave post (g_known, nI M, nI L, g_counted, f_downs, nI (D + 1), g_begun, g_given, g_outcome, g_isShort, g_ran, g_put, nI E, b_ops, b_as, b_bs, b_cs, b_size, b_lent, b_need, b_plans, b_keep, b_value, b_fields, b_alive, b_method, b_pc, b_variable, b_loan, b_outs, a_ends, b_todo, b_phase)) := by
  obtain ⟨hL24, hEL, hM⟩ := hp_L24 H
  obtain ⟨E1, L1, f_downs1, a_numbers1, a_counts1, a_fields1, a_ending1, a_stage1, a_ends1, b_fields1, b_alive1, b_todo1, b_phase1, a_held1, a_lent1, H1, hm1, V1, hX1, hY1⟩ := qv_loop (f_known := f_known) (f_brief := f_brief) (f_outCount := f_outCount) (f_ups := f_ups) (f_steps := f_steps) (f_gift := f_gift) (f_ended := f_ended) (f_stopped := f_stopped) (a_length := a_length) (a_lends := a_lends) (a_ops := a_ops) (a_firsts := a_firsts) (a_seconds := a_seconds) (a_thirds := a_thirds) (a_need := a_need) (a_loan := a_loan) (a_hands := a_hands) (a_keeps := a_keeps) (a_come := a_come) (a_fMethod := a_fMethod) (a_fLine := a_fLine) (a_outs := a_outs) (g_known := g_known) (g_counted := g_counted) (g_begun := g_begun) (g_outcome := g_outcome) (g_isShort := g_isShort) (g_ran := g_ran) (g_put := g_put) (b_ops := b_ops) (b_as := b_as) (b_bs := b_bs) (b_cs := b_cs) (b_size := b_size) (b_lent := b_lent) (b_need := b_need) (b_plans := b_plans) (b_keep := b_keep) (b_method := b_method) (b_pc := b_pc) (b_outs := b_outs) (f_made := f_made) (x1 := x1) (D := D + 1) (by omega) (by omega) 6 0 E L f_downs a_numbers a_counts a_fields a_ending a_stage a_ends b_fields b_alive b_todo b_phase a_held a_lent b_variable b_loan rfl H V
  have H2 : HR M E1 L1 0 (fun n => hp_RC 0 (qv_f b_variable (D + 1) 0) (qv_f b_loan (D + 1) 0) D n + (if (0 : Int32) = 0 then hp_dl g_given n else 0)) a_numbers1 a_ints a_counts1 a_fields1 a_ending1 a_stage1 b_value b_fields1 b_alive1 b_todo1 b_phase1 := hp_cg (fun n h1 h2 => by
    rw [qv_RCd (D := D) h1 (by omega), if_pos rfl]
    exact (qv_RCg h1 (by omega)).symm) H1
  have V2 : vr_V D M a_numbers1 b_alive1 a_held1 a_lent1 (qv_f b_variable (D + 1) 0) (qv_f b_loan (D + 1) 0) := ⟨fun w hw => V1.1 w (by omega), fun d hd => V1.2 d (by omega)⟩
  obtain ⟨E', L', f_downs', a_numbers', a_counts', a_fields', a_ending', a_stage', a_ends', b_fields', b_alive', b_todo', b_phase', H3, hm3, V3, hX3, hY3⟩ := vg_let (f_known := f_known) (f_brief := f_brief) (f_outCount := f_outCount) (f_ups := f_ups) (f_steps := f_steps) (f_gift := f_gift) (f_ended := f_ended) (f_stopped := f_stopped) (a_length := a_length) (a_lends := a_lends) (a_ops := a_ops) (a_firsts := a_firsts) (a_seconds := a_seconds) (a_thirds := a_thirds) (a_need := a_need) (a_loan := a_loan) (a_hands := a_hands) (a_keeps := a_keeps) (a_come := a_come) (a_fMethod := a_fMethod) (a_fLine := a_fLine) (a_held := a_held1) (a_lent := a_lent1) (a_outs := a_outs) (g_known := g_known) (g_counted := g_counted) (g_begun := g_begun) (g_outcome := g_outcome) (g_isShort := g_isShort) (g_ran := g_ran) (g_put := g_put) (b_ops := b_ops) (b_as := b_as) (b_bs := b_bs) (b_cs := b_cs) (b_size := b_size) (b_lent := b_lent) (b_need := b_need) (b_plans := b_plans) (b_keep := b_keep) (b_method := b_method) (b_pc := upd b_pc (D - 1) (nI (i + 1))) (b_variable := qv_f b_variable (D + 1) 0) (b_loan := qv_f b_loan (D + 1) 0) (b_outs := b_outs) (f_made := f_made) (f_downs := f_downs1) (a_ends := a_ends1) (x := x1) (y := g_given) (lo := 0) hD1 (by omega) ha (hp_RW_m hm1 hxy) V2 H2
  have elo : vr_lo 0 g_given = 0 := if_pos rfl
  rw [elo] at H3 V3
  rw [elo] at hY3
  refine ⟨E', L', f_downs', a_numbers', a_counts', a_fields', a_ending', a_stage', a_ends', b_fields', b_alive', b_todo', b_phase', _, _, H3, hp_HM_t hm1 hm3, V3, fun u hdr post hp => ⟨7, hX1 post 1 ?_⟩, fun post hp => nm_r (e' := nI D) (tl_pred (by omega)) (nm_r (tl_6a D) ⟨7, hY1 post 1 ?_⟩)⟩
  · have ed : nI D - 1 = nI (D - 1) := tl_pred hD1
    have cd : (nI (D - 1)).toNatClampNeg = D - 1 := nI_clamp (by omega)
    have vd : vp_in (nI (D - 1)) 6 := vp_in_nI (by omega) (by omega)
    have e16 : 16 * nI m + nI i = nI (16 * m + i) := tl_16 m i
    have c16 : (nI (16 * m + i)).toNatClampNeg = 16 * m + i := nI_clamp (by omega)
    rw [wX_leave_2]
    refine br_t (by decide : (6 : Int32) ≤ nI 6) (nm_r (e' := nI D) (nI_pred D) (br_f (nI_ne0 hD1 (by omega)) ?_))
    rw [ed, cd]
    refine ⟨vd, nm_r eL ⟨vd, ?_⟩⟩
    rw [eM, e16, c16, ea]
    refine ⟨vp_in_nI (by omega) (by omega), hX3 _ ?_⟩
    show wpX_goTo _ _ (nI i + 1)
    rw [nI_1]
    exact gt_x hD1 (by omega) (by omega) hdr hp
  · have ed : nI D - 1 = nI (D - 1) := tl_pred hD1
    have cd : (nI (D - 1)).toNatClampNeg = D - 1 := nI_clamp (by omega)
    have vd : vp_in (nI (D - 1)) 6 := vp_in_nI (by omega) (by omega)
    have e16 : 16 * nI m + nI i = nI (16 * m + i) := tl_16 m i
    have c16 : (nI (16 * m + i)).toNatClampNeg = 16 * m + i := nI_clamp (by omega)
    rw [wY_leave_12]
    refine br_t ?_ (br_f ?_ ?_)
    · rw [tl_6a, show (6 : Int32) = nI 6 from rfl, nI_add]
      exact nI_le (by omega) (by omega)
    · exact nI_ne0 (by omega) (by omega)
    · rw [Nat.add_sub_cancel, ed, cd, eM', eL', e16, c16, eb, tl_6, nI_1]
      exact ⟨vd, vd, vp_in_nI (by omega) (by omega), nm_e ⟨vd, vd, nm_e (hY3 _ hp)⟩⟩
end
end
section
section
variable {f_known f_depth f_brief f_outCount f_endCount f_ups f_downs f_steps f_made f_alive f_gift f_ended f_stopped : Int32} {a_length a_lends a_ops a_firsts a_seconds a_thirds a_need a_loan a_hands a_keeps a_come a_numbers a_ints a_counts a_fields a_ending a_stage a_fMethod a_fLine a_held a_lent a_outs a_ends : Nat → Int32}
variable {g_known g_made g_living g_counted g_less g_depth g_begun g_given g_outcome g_isShort g_ran g_put g_ended : Int32} {b_ops b_as b_bs b_cs b_size b_lent b_need b_plans b_keep b_value b_fields b_alive b_method b_pc b_variable b_loan b_outs b_ends b_todo b_phase : Nat → Int32}
variable {D M E L S O m i : Nat} {rc : Nat → Nat}
/-- what becomes of a step on both sides: it goes on, it fails, the run is done -/
def st_O (f_known f_brief g_ran : Int32) (a_length a_lends a_ops a_firsts a_seconds a_thirds a_need a_loan a_hands a_keeps a_come b_as b_bs b_need b_plans b_keep : Nat → Int32) (D0 S0 : Nat) (WX : (SX → Prop) → Prop) (WY : (SY → Prop) → Prop) : Prop :=
  (∃ (D M E L S O m i : Nat) (f_ups f_downs : Int32) (a_numbers a_ints a_counts a_fields a_ending a_stage a_fMethod a_fLine a_held a_lent a_outs a_ends b_value b_fields b_alive b_variable b_loan b_todo b_phase : Nat → Int32), rn_F0 f_brief a_length a_ops a_thirds a_need D M E L S O m i a_numbers a_ints a_counts a_fields a_ending a_stage a_fMethod a_fLine a_held a_lent b_value b_fields b_alive b_variable b_loan b_todo b_phase ∧ 8 * S0 + D < 8 * S + D0 ∧ (∀ u : SX, (∀ post : SX → Prop, post u → wpX_drop post (f_known, nI D, f_brief, nI O, nI E, f_ups, f_downs, nI S, nI M, nI L, 0, (-1), (-1), a_length, a_lends, a_ops, a_firsts, a_seconds, a_thirds, a_need, a_loan, a_hands, a_keeps, a_come, a_numbers, a_ints, a_counts, a_fields, a_ending, a_stage, a_fMethod, a_fLine, a_held, a_lent, a_outs, a_ends)) → ∀ post : SX → Prop, post u → WX post) ∧ (∀ post : SY → Prop, post (f_known, nI M, nI L, f_ups, f_downs, nI D, nI S, 0, (-1), f_brief, g_ran, nI O, nI E, a_ops, b_as, b_bs, a_thirds, a_length, a_lends, b_need, b_plans, b_keep, b_value, b_fields, b_alive, a_fMethod, a_fLine, b_variable, b_loan, a_outs, a_ends, b_todo, b_phase) → WY post)) ∨
  (∃ (r : Int32) (D M E L S O m i : Nat) (f_ups f_downs : Int32) (a_numbers a_ints a_counts a_fields a_ending a_stage a_fMethod a_fLine a_held a_lent a_outs a_ends b_value b_fields b_alive b_variable b_loan b_todo b_phase : Nat → Int32), (r = 1 ∨ r = 2) ∧ rn_F0 f_brief a_length a_ops a_thirds a_need D M E L S O m i a_numbers a_ints a_counts a_fields a_ending a_stage a_fMethod a_fLine a_held a_lent b_value b_fields b_alive b_variable b_loan b_todo b_phase ∧ (∀ post : SX → Prop, post (f_known, nI D, f_brief, nI O, nI E, f_ups, f_downs, nI S, nI M, nI L, 0, r, (-1), a_length, a_lends, a_ops, a_firsts, a_seconds, a_thirds, a_need, a_loan, a_hands, a_keeps, a_come, a_numbers, a_ints, a_counts, a_fields, a_ending, a_stage, a_fMethod, a_fLine, a_held, a_lent, a_outs, a_ends) → WX post) ∧ (∀ post : SY → Prop, post (f_known, nI M, nI L, f_ups, f_downs, nI D, nI S, 0, r, f_brief, g_ran, nI O, nI E, a_ops, b_as, b_bs, a_thirds, a_length, a_lends, b_need, b_plans, b_keep, b_value, b_fields, b_alive, a_fMethod, a_fLine, b_variable, b_loan, a_outs, a_ends, b_todo, b_phase) → WY post)) ∨
  (∃ (g : Int32) (D M E L S O m i : Nat) (f_ups f_downs : Int32) (a_numbers a_ints a_counts a_fields a_ending a_stage a_fMethod a_fLine a_held a_lent a_outs a_ends b_value b_fields b_alive b_variable b_loan b_todo b_phase : Nat → Int32), (HR M E L 0 (hp_RC g b_variable b_loan 0) a_numbers a_ints a_counts a_fields a_ending a_stage b_value b_fields b_alive b_todo b_phase ∧ M ≤ S ∧ O ≤ S ∧ S ≤ 300) ∧ (∀ post : SX → Prop, post (f_known, 0, f_brief, nI O, nI E, f_ups, f_downs, nI S, nI M, nI L, g, 0, (-1), a_length, a_lends, a_ops, a_firsts, a_seconds, a_thirds, a_need, a_loan, a_hands, a_keeps, a_come, a_numbers, a_ints, a_counts, a_fields, a_ending, a_stage, a_fMethod, a_fLine, a_held, a_lent, a_outs, a_ends) → WX post) ∧ (∀ post : SY → Prop, post (f_known, nI M, nI L, f_ups, f_downs, 0, nI S, g, 0, f_brief, g_ran, nI O, nI E, a_ops, b_as, b_bs, a_thirds, a_length, a_lends, b_need, b_plans, b_keep, b_value, b_fields, b_alive, a_fMethod, a_fLine, b_variable, b_loan, a_outs, a_ends, b_todo, b_phase) → WY post))
theorem st_F0 {M1 E1 L1 O1 i1 : Nat} {a_numbers1 a_ints1 a_counts1 a_fields1 a_ending1 a_stage1 a_held1 a_lent1 b_value1 b_fields1 b_alive1 b_variable1 b_loan1 b_todo1 b_phase1 : Nat → Int32} (F : rn_F0 f_brief a_length a_ops a_thirds a_need D M E L S O m i a_numbers a_ints a_counts a_fields a_ending a_stage a_fMethod a_fLine a_held a_lent b_value b_fields b_alive b_variable b_loan b_todo b_phase) (hS : S < 300) (hM1 : M1 ≤ S + 1) (hO1 : O1 ≤ S + 1) (hi1 : i1 ≤ 16)
    (H1 : HR M1 E1 L1 0 (hp_RC 0 b_variable1 b_loan1 D) a_numbers1 a_ints1 a_counts1 a_fields1 a_ending1 a_stage1 b_value1 b_fields1 b_alive1 b_todo1 b_phase1) (V1 : vr_V D M1 a_numbers1 b_alive1 a_held1 a_lent1 b_variable1 b_loan1)
    (LS1 : rn_LS f_brief a_length a_ops a_thirds a_need D M1 m i1 b_variable1 b_loan1 b_fields1) :
    rn_F0 f_brief a_length a_ops a_thirds a_need D M1 E1 L1 (S + 1) O1 m i1 a_numbers1 a_ints1 a_counts1 a_fields1 a_ending1 a_stage1 a_fMethod (upd a_fLine (D - 1) (nI i1)) a_held1 a_lent1 b_value1 b_fields1 b_alive1 b_variable1 b_loan1 b_todo1 b_phase1 := by
  obtain ⟨hD1, hD6, hMS, hOS, hS3, hm, hi, eM, eL, hfr, H, V, LS⟩ := F
  refine ⟨hD1, hD6, hM1, hO1, by omega, hm, hi1, eM, tl_us, fun d hd => ?_, H1, V1, LS1⟩
  obtain ⟨m', i', k1, k2, k3, k4, k5⟩ := hfr d hd
  exact ⟨m', i', k1, k2, k3, by rw [tl_un (by omega)]; exact k4, k5⟩
theorem st_lsm {i1 : Nat} (hD1 : 1 ≤ D) (hsc : rn_sc a_ops a_thirds m i i1) (NB : rn_NB f_brief a_length a_need D m i b_variable) (LS : rn_LS f_brief a_length a_ops a_thirds a_need D M m i b_variable b_loan b_fields) :
    rn_LS f_brief a_length a_ops a_thirds a_need D M m i1 b_variable b_loan b_fields := by
  intro w hw hl hv
  obtain ⟨hb, k⟩ := LS w hw hl hv
  refine ⟨hb, ?_⟩
  rcases k with k | ⟨hge, k⟩
  · exact Or.inl k
  · refine Or.inr ⟨hge, fun hN1 => ?_⟩
    have hN := NB hb (w - 6 * (D - 1)) (by omega) (by rw [show 6 * (D - 1) + (w - 6 * (D - 1)) = w by omega]; exact hv)
    obtain ⟨b, f, nb, Q, hb6, hf, hn1, hnM', hnb, eb, ef, hp, hQ, hLC⟩ := k hN
    refine ⟨b, f, nb, Q, hb6, hf, hn1, hnM', hnb, eb, ef, hp, ?_, hLC⟩
    unfold rn_na at hN1
    by_cases z : i1 < rn_len a_length m
    · rw [if_pos z] at hN1
      exact (hLC i hQ).2.2.2.2 i1 hsc z hN1
    · rw [if_neg z, b_0] at hN1
      exact absurd hN1 (by decide)
/-- a variable of the call that runs -/
theorem st_var {a : Nat} (ha : a < 6) (F : rn_F0 f_brief a_length a_ops a_thirds a_need D M E L S O m i a_numbers a_ints a_counts a_fields a_ending a_stage a_fMethod a_fLine a_held a_lent b_value b_fields b_alive b_variable b_loan b_todo b_phase) (NB : rn_NB f_brief a_length a_need D m i b_variable) :
    (a_held (6 * (D - 1) + a) = -1 ∧ b_variable (6 * (D - 1) + a) = 0) ∨ ∃ q t, q < 24 ∧ 1 ≤ t ∧ t ≤ M ∧ a_held (6 * (D - 1) + a) = nI q ∧ b_variable (6 * (D - 1) + a) = nI t ∧ a_numbers q = nI t ∧ b_alive t ≠ 0 := by
  obtain ⟨hD1, hD6, hMS, hOS, hS3, hm, hi, eM, eL, hfr, H, V, LS⟩ := F
  obtain ⟨hL24, hEL, hM⟩ := hp_L24 H
  have hw : 6 * (D - 1) + a < 6 * D := by omega
  rcases (V.1 _ hw).1 with k | ⟨q, t, hq, h1, hM', ex, ey, hn⟩
  · exact Or.inl k
  · have hal := rn_alive hD1 hM hM' NB LS hw h1 ey H
    exact Or.inr ⟨q, t, hq, h1, hM', ex, ey, hn hal, hal⟩
theorem st_val {a : Nat} (ha : a < 6) (F : rn_F0 f_brief a_length a_ops a_thirds a_need D M E L S O m i a_numbers a_ints a_counts a_fields a_ending a_stage a_fMethod a_fLine a_held a_lent b_value b_fields b_alive b_variable b_loan b_todo b_phase) (NB : rn_NB f_brief a_length a_need D m i b_variable) : ∀ t, 1 ≤ t → t ≤ M → b_variable (6 * (D - 1) + a) = nI t → b_alive t ≠ 0 := by
  intro t h1 hM' e
  obtain ⟨hD1, hD6, hMS, hOS, hS3, hm, hi, eM, eL, hfr, H, V, LS⟩ := F
  obtain ⟨hL24, hEL, hM⟩ := hp_L24 H
  exact rn_alive hD1 hM hM' NB LS (by omega) h1 e H
/-! X: on to the next line -/
theorem st_xn {post : SX → Prop} {u : SX} {k o : Nat} {x3 x4 : Int32} (hD1 : 1 ≤ D) (hD : D ≤ 6) (hi : i < 16) (hk : k < 64) (eo : a_ops k = nI o) (h9 : ¬ nI o = 9) (h10 : ¬ nI o = 10) (hx : ¬ x4 = 0)
    (hdr : ∀ post : SX → Prop, post u → wpX_drop post (f_known, nI D, f_brief, f_outCount, f_endCount, f_ups, f_downs, f_steps, f_made, f_alive, f_gift, f_ended, f_stopped, a_length, a_lends, a_ops, a_firsts, a_seconds, a_thirds, a_need, a_loan, a_hands, a_keeps, a_come, a_numbers, a_ints, a_counts, a_fields, a_ending, a_stage, a_fMethod, upd a_fLine (D - 1) (nI (i + 1)), a_held, a_lent, a_outs, a_ends)) (hp : post u) : wX_step_264 post (nI k) (nI i) x3 x4 f_known (nI D) f_brief f_outCount f_endCount f_ups f_downs f_steps f_made f_alive f_gift f_ended f_stopped a_length a_lends a_ops a_firsts a_seconds a_thirds a_need a_loan a_hands a_keeps a_come a_numbers a_ints a_counts a_fields a_ending a_stage a_fMethod a_fLine a_held a_lent a_outs a_ends := by
  have ck : (nI k).toNatClampNeg = k := nI_clamp (by omega)
  have vk : vp_in (nI k) 64 := vp_in_nI hk (by omega)
  unfold wX_step_264
  rw [ck, eo]
  refine br_f hx ⟨vk, br_f h10 ⟨vk, br_f h9 ?_⟩⟩
  unfold wX_step_317 wX_step_320
  rw [nI_1]
  exact gt_x hD1 hD (by omega) hdr hp
theorem st_xf {post : SX → Prop} {x1 x2 x3 : Int32} (hp : post (f_known, f_depth, f_brief, f_outCount, f_endCount, f_ups, f_downs, f_steps, f_made, f_alive, f_gift, 1, f_stopped, a_length, a_lends, a_ops, a_firsts, a_seconds, a_thirds, a_need, a_loan, a_hands, a_keeps, a_come, a_numbers, a_ints, a_counts, a_fields, a_ending, a_stage, a_fMethod, a_fLine, a_held, a_lent, a_outs, a_ends)) : wX_step_264 post x1 x2 x3 0 f_known f_depth f_brief f_outCount f_endCount f_ups f_downs f_steps f_made f_alive f_gift f_ended f_stopped a_length a_lends a_ops a_firsts a_seconds a_thirds a_need a_loan a_hands a_keeps a_come a_numbers a_ints a_counts a_fields a_ending a_stage a_fMethod a_fLine a_held a_lent a_outs a_ends := br_t rfl hp
theorem st_xgo {post : SX → Prop} {u : SX} {k c : Nat} {x2 x3 : Int32} (hD1 : 1 ≤ D) (hD : D ≤ 6) (hk : k < 64) (hc : c < 16) (eo : a_ops k = nI 10) (ec : a_thirds k = nI c)
    (hdr : ∀ post : SX → Prop, post u → wpX_drop post (f_known, nI D, f_brief, f_outCount, f_endCount, f_ups, f_downs, f_steps, f_made, f_alive, f_gift, f_ended, f_stopped, a_length, a_lends, a_ops, a_firsts, a_seconds, a_thirds, a_need, a_loan, a_hands, a_keeps, a_come, a_numbers, a_ints, a_counts, a_fields, a_ending, a_stage, a_fMethod, upd a_fLine (D - 1) (nI c), a_held, a_lent, a_outs, a_ends)) (hp : post u) : wX_step_264 post (nI k) x2 x3 1 f_known (nI D) f_brief f_outCount f_endCount f_ups f_downs f_steps f_made f_alive f_gift f_ended f_stopped a_length a_lends a_ops a_firsts a_seconds a_thirds a_need a_loan a_hands a_keeps a_come a_numbers a_ints a_counts a_fields a_ending a_stage a_fMethod a_fLine a_held a_lent a_outs a_ends := by
  have ck : (nI k).toNatClampNeg = k := nI_clamp (by omega)
  have vk : vp_in (nI k) 64 := vp_in_nI hk (by omega)
  unfold wX_step_264
  rw [ck, eo]
  refine br_f tl_n1' ⟨vk, br_t rfl ?_⟩
  unfold wX_step_308 wX_step_320
  rw [ck, ec]
  exact ⟨vk, gt_x hD1 hD (by omega) hdr hp⟩
theorem st_xif {post : SX → Prop} {u : SX} {k c a j : Nat} (hD1 : 1 ≤ D) (hD : D ≤ 6) (hk : k < 64) (hc : c < 16) (ha : a < 6) (hi : i < 16) (eo : a_ops k = nI 9) (ec : a_thirds k = nI c) (hj : j = if a_held (6 * (D - 1) + a) < 0 then c else i + 1)
    (hdr : ∀ post : SX → Prop, post u → wpX_drop post (f_known, nI D, f_brief, f_outCount, f_endCount, f_ups, f_downs, f_steps, f_made, f_alive, f_gift, f_ended, f_stopped, a_length, a_lends, a_ops, a_firsts, a_seconds, a_thirds, a_need, a_loan, a_hands, a_keeps, a_come, a_numbers, a_ints, a_counts, a_fields, a_ending, a_stage, a_fMethod, upd a_fLine (D - 1) (nI j), a_held, a_lent, a_outs, a_ends)) (hp : post u) : wX_step_264 post (nI k) (nI i) (nI a) 1 f_known (nI D) f_brief f_outCount f_endCount f_ups f_downs f_steps f_made f_alive f_gift f_ended f_stopped a_length a_lends a_ops a_firsts a_seconds a_thirds a_need a_loan a_hands a_keeps a_come a_numbers a_ints a_counts a_fields a_ending a_stage a_fMethod a_fLine a_held a_lent a_outs a_ends := by
  have ck : (nI k).toNatClampNeg = k := nI_clamp (by omega)
  have vk : vp_in (nI k) 64 := vp_in_nI hk (by omega)
  unfold wX_step_264
  rw [ck, eo]
  refine br_f tl_n1' ⟨vk, br_f (by decide) ⟨vk, br_t rfl (vg_var hD1 hD ha ?_)⟩⟩
  by_cases z : a_held (6 * (D - 1) + a) < 0
  · rw [if_pos z] at hj
    subst hj
    refine br_f (Int32.not_le.mpr z) ?_
    unfold wX_step_308 wX_step_320
    rw [ck, ec]
    exact ⟨vk, gt_x hD1 hD (by omega) hdr hp⟩
  · rw [if_neg z] at hj
    subst hj
    refine br_t (Int32.not_lt.mp z) ?_
    unfold wX_step_317 wX_step_320
    rw [nI_1]
    exact gt_x hD1 hD (by omega) hdr hp
/-! alone -/
def st_al (c : Nat) (y l : Int32) : Int32 := if y = 0 then 0 else if l = 0 then (if c = 1 then 1 else 0) else 0
theorem st_al01 (c : Nat) (y l : Int32) : st_al c y l = 0 ∨ st_al c y l = 1 := by
  unfold st_al
  split
  · exact Or.inl rfl
  · split
    · split
      · exact Or.inr rfl
      · exact Or.inl rfl
    · exact Or.inl rfl
theorem st_only {post : Int32 → Prop} {a : Nat} (ha : a < 6) (F : rn_F0 f_brief a_length a_ops a_thirds a_need D M E L S O m i a_numbers a_ints a_counts a_fields a_ending a_stage a_fMethod a_fLine a_held a_lent b_value b_fields b_alive b_variable b_loan b_todo b_phase) (NB : rn_NB f_brief a_length a_need D m i b_variable)
    (hp : post (st_al (hp_RC 0 b_variable b_loan D (b_variable (6 * (D - 1) + a)).toNatClampNeg + hp_FC b_fields M (b_variable (6 * (D - 1) + a)).toNatClampNeg) (b_variable (6 * (D - 1) + a)) (b_loan (6 * (D - 1) + a)))) : wpX_isOnly post (f_known, nI D, f_brief, f_outCount, f_endCount, f_ups, f_downs, f_steps, f_made, f_alive, f_gift, f_ended, f_stopped, a_length, a_lends, a_ops, a_firsts, a_seconds, a_thirds, a_need, a_loan, a_hands, a_keeps, a_come, a_numbers, a_ints, a_counts, a_fields, a_ending, a_stage, a_fMethod, a_fLine, a_held, a_lent, a_outs, a_ends) (nI a) := by
  have hv := st_var ha F NB
  obtain ⟨hD1, hD6, hMS, hOS, hS3, hm, hi, eM, eL, hfr, H, V, LS⟩ := F
  obtain ⟨hL24, hEL, hM⟩ := hp_L24 H
  have k2 := (V.1 (6 * (D - 1) + a) (by omega)).2
  rw [show (6 * (D - 1) + a) / 6 = D - 1 by omega, show (6 * (D - 1) + a) % 6 = a by omega] at k2
  unfold wpX_isOnly
  refine vg_var hD1 hD6 ha ?_
  rcases hv with ⟨ex, ey⟩ | ⟨q, t, hq, h1, hM', ex, ey, hn, hal⟩
  · rw [ex]
    rw [ey] at hp
    exact br_t tl_m1lt hp
  · have hy0 : ¬ nI t = 0 := nI_ne0 h1 (by omega)
    rw [ey, nI_clamp (by omega)] at hp
    unfold st_al at hp
    rw [if_neg hy0] at hp
    rw [ex]
    refine br_f (nI_pos (by omega)) (vg_isLent hD1 hD6 ha ?_)
    by_cases hl : b_loan (6 * (D - 1) + a) = 0
    · rw [if_pos hl] at hp
      have hb : ¬ bt (a_lent (D - 1)) a = true := fun z => ((k2 (by rw [ey]; exact hy0)).mp z) hl
      rw [if_neg hb]
      refine br_t rfl (vg_var hD1 hD6 ha ?_)
      rw [ex]
      have hb1 := hp_RC_le 0 b_variable b_loan D t
      have hb2 := hp_FC_le b_fields M t
      have hco : a_counts q = nI (hp_RC 0 b_variable b_loan D t + hp_FC b_fields M t) := H.2.2.2.2.1 q t hq h1 hM' hn
      rw [nI_clamp (by omega), hco]
      refine ⟨vp_in_nI hq (by omega), ?_⟩
      by_cases z : hp_RC 0 b_variable b_loan D t + hp_FC b_fields M t = 1
      · rw [if_pos z] at hp
        exact br_t (by rw [z]; rfl) hp
      · rw [if_neg z] at hp
        exact br_f (fun w => z (tl_inj (b := 1) w (by omega) (by omega))) hp
    · rw [if_neg hl] at hp
      have hb : bt (a_lent (D - 1)) a = true := (k2 (by rw [ey]; exact hy0)).mpr hl
      rw [if_pos hb]
      exact br_f tl_n1' hp
/-! Y: the front of carryOut -/
theorem sy_in {post : SY → Prop} {k o a : Nat} (hD1 : 1 ≤ D) (hD : D ≤ 6) (hk : k < 64) (ha : a < 6) (eo : b_ops k = nI o) (ea : b_as k = nI a) (h10 : ¬ nI o = 10) (h13 : ¬ nI o = 13)
    (h : wY_carryOut_58 post (nI k) (nI o) (nI (6 * (D - 1) + a)) (nI (6 * (D - 1)) + b_bs k) (b_cs k) (b_variable (6 * (D - 1) + a)) g_known g_made g_living g_counted g_less g_depth g_begun g_given g_outcome g_isShort g_ran g_put g_ended b_ops b_as b_bs b_cs b_size b_lent b_need b_plans b_keep b_value b_fields b_alive b_method b_pc b_variable b_loan b_outs b_ends b_todo b_phase) : wpY_carryOut post (g_known, g_made, g_living, g_counted, g_less, g_depth, g_begun, g_given, g_outcome, g_isShort, g_ran, g_put, g_ended, b_ops, b_as, b_bs, b_cs, b_size, b_lent, b_need, b_plans, b_keep, b_value, b_fields, b_alive, b_method, b_pc, b_variable, b_loan, b_outs, b_ends, b_todo, b_phase) (nI (6 * (D - 1))) (nI k) := by
  have ck : (nI k).toNatClampNeg = k := nI_clamp (by omega)
  have vk : vp_in (nI k) 64 := vp_in_nI hk (by omega)
  have cw : (nI (6 * (D - 1) + a)).toNatClampNeg = 6 * (D - 1) + a := nI_clamp (by omega)
  unfold wpY_carryOut
  dsimp only
  rw [ck, ea, nI_add]
  refine ⟨vk, nm_r eo ⟨vk, nm_e ⟨vk, nm_e ⟨vk, nm_e (br_f h10 (br_f h13 ?_))⟩⟩⟩⟩
  rw [cw]
  exact ⟨vp_in_nI (by omega) (by omega), h⟩
theorem sy_134 {post : SY → Prop} {x2 x3 x5 x6 z0 : Int32} {w t : Nat} (hw : w < 36) (hM : M ≤ 300) (hD : D ≤ 6) (ht : t ≤ M)
    (h : wY_carryOut_166 post x2 x3 (nI w) x5 x6 (nI t) z0 (st_al (hp_RC g_given b_variable b_loan D t + hp_FC b_fields M t) (nI t) (b_loan w)) g_known (nI M) g_living g_counted g_less (nI D) g_begun g_given g_outcome g_isShort g_ran g_put g_ended b_ops b_as b_bs b_cs b_size b_lent b_need b_plans b_keep b_value b_fields b_alive b_method b_pc b_variable b_loan b_outs b_ends b_todo b_phase) : wY_carryOut_134 post x2 x3 (nI w) x5 x6 (nI t) z0 g_known (nI M) g_living g_counted g_less (nI D) g_begun g_given g_outcome g_isShort g_ran g_put g_ended b_ops b_as b_bs b_cs b_size b_lent b_need b_plans b_keep b_value b_fields b_alive b_method b_pc b_variable b_loan b_outs b_ends b_todo b_phase := by
  have cw : (nI w).toNatClampNeg = w := nI_clamp (by omega)
  have vw : vp_in (nI w) 36 := vp_in_nI hw (by omega)
  unfold st_al at h
  unfold wY_carryOut_134
  by_cases z : t = 0
  · subst z
    rw [if_pos (show nI 0 = 0 from rfl)] at h
    exact br_t (by decide) h
  · rw [if_neg (nI_ne0 (by omega) (by omega))] at h
    refine br_f (nI_nle (by omega) (by omega)) ⟨vw, ?_⟩
    rw [cw]
    have hb1 := hp_RC_le g_given b_variable b_loan D t
    have hb2 := hp_FC_le b_fields M t
    by_cases hl : b_loan w = 0
    · rw [if_pos hl] at h
      refine br_t hl (yc hM hD ?_)
      by_cases q : hp_RC g_given b_variable b_loan D t + hp_FC b_fields M t = 1
      · rw [if_pos q] at h
        exact br_t (by rw [q]; rfl) h
      · rw [if_neg q] at h
        exact br_f (fun w => q (tl_inj (b := 1) w (by omega) (by omega))) h
    · rw [if_neg hl] at h
      exact br_f hl h
/-- to the stage where all is fine -/
theorem sy_ok {post : SY → Prop} {k o w : Nat} {x5 : Int32} {t : Nat} (hw : w < 36) (hM : M ≤ 300) (hD : D ≤ 6) (ht : t ≤ M) (ho : o < 14) (h0 : o = 0 → ¬ g_living = 24) (h46 : o = 4 ∨ o = 6 → t ≠ 0) (h3 : o = 3 → ∃ w', w' < 36 ∧ x5 = nI w' ∧ ¬ b_variable w' = 0) (h11 : o = 11 → ¬ D = 6 ∧ ∃ c, c < 4 ∧ b_cs k = nI c ∧ ¬ b_size c = 0)
    (h : wY_carryOut_166 post (nI k) (nI o) (nI w) x5 (b_cs k) (nI t) 0 (st_al (hp_RC g_given b_variable b_loan D t + hp_FC b_fields M t) (nI t) (b_loan w)) g_known (nI M) g_living g_counted g_less (nI D) g_begun g_given g_outcome g_isShort g_ran g_put g_ended b_ops b_as b_bs b_cs b_size b_lent b_need b_plans b_keep b_value b_fields b_alive b_method b_pc b_variable b_loan b_outs b_ends b_todo b_phase) : wY_carryOut_58 post (nI k) (nI o) (nI w) x5 (b_cs k) (nI t) g_known (nI M) g_living g_counted g_less (nI D) g_begun g_given g_outcome g_isShort g_ran g_put g_ended b_ops b_as b_bs b_cs b_size b_lent b_need b_plans b_keep b_value b_fields b_alive b_method b_pc b_variable b_loan b_outs b_ends b_todo b_phase := by
  have hq : ∀ j : Nat, j < 14 → nI o = nI j → o = j := fun j hj e => tl_inj e (by omega) (by omega)
  have K133 := sy_134 (post := post) (x2 := nI k) (x3 := nI o) (x5 := x5) (x6 := b_cs k) (z0 := 0) hw hM hD ht h
  have K104 : wY_carryOut_104 post (nI k) (nI o) (nI w) x5 (b_cs k) (nI t) g_known (nI M) g_living g_counted g_less (nI D) g_begun g_given g_outcome g_isShort g_ran g_put g_ended b_ops b_as b_bs b_cs b_size b_lent b_need b_plans b_keep b_value b_fields b_alive b_method b_pc b_variable b_loan b_outs b_ends b_todo b_phase := by
    refine br_c (fun z => ?_) (fun _ => K133)
    obtain ⟨k1, c, hc, ec, ek⟩ := h11 (hq 11 (by omega) z)
    refine br_f (fun z => k1 (tl_inj (b := 6) z (by omega) (by omega))) ?_
    rw [ec, nI_clamp (by omega)]
    refine ⟨vp_in_nI hc (by omega), br_f ek ?_⟩
    rw [ec] at K133
    exact K133
  have K89 : wY_carryOut_89 post (nI k) (nI o) (nI w) x5 (b_cs k) (nI t) g_known (nI M) g_living g_counted g_less (nI D) g_begun g_given g_outcome g_isShort g_ran g_put g_ended b_ops b_as b_bs b_cs b_size b_lent b_need b_plans b_keep b_value b_fields b_alive b_method b_pc b_variable b_loan b_outs b_ends b_todo b_phase := by
    refine br_c (fun z => ?_) (fun _ => K104)
    obtain ⟨w', hw', e, ek⟩ := h3 (hq 3 (by omega) z)
    rw [e, nI_clamp (by omega)]
    refine ⟨vp_in_nI hw' (by omega), br_f ek ?_⟩
    rw [e] at K104
    exact K104
  have K84 : t ≠ 0 → wY_carryOut_84 post (nI k) (nI o) (nI w) x5 (b_cs k) (nI t) g_known (nI M) g_living g_counted g_less (nI D) g_begun g_given g_outcome g_isShort g_ran g_put g_ended b_ops b_as b_bs b_cs b_size b_lent b_need b_plans b_keep b_value b_fields b_alive b_method b_pc b_variable b_loan b_outs b_ends b_todo b_phase := fun z => br_f (nI_ne0 (by omega) (by omega)) K89
  have K73 : wY_carryOut_73 post (nI k) (nI o) (nI w) x5 (b_cs k) (nI t) g_known (nI M) g_living g_counted g_less (nI D) g_begun g_given g_outcome g_isShort g_ran g_put g_ended b_ops b_as b_bs b_cs b_size b_lent b_need b_plans b_keep b_value b_fields b_alive b_method b_pc b_variable b_loan b_outs b_ends b_todo b_phase :=
    br_c (fun z => K84 (h46 (Or.inl (hq 4 (by omega) z)))) (fun _ => br_c (fun z => K84 (h46 (Or.inr (hq 6 (by omega) z)))) (fun _ => K89))
  exact br_c (fun z => br_f (h0 (hq 0 (by omega) z)) K73) (fun _ => K73)
theorem sy_193f {post : SY → Prop} {x2 x3 x4 x5 x6 x7 x9 : Int32} (h : post (g_known, g_made, g_living, g_counted, g_less, g_depth, g_begun, g_given, 1, g_isShort, g_ran, g_put, g_ended, b_ops, b_as, b_bs, b_cs, b_size, b_lent, b_need, b_plans, b_keep, b_value, b_fields, b_alive, b_method, b_pc, b_variable, b_loan, b_outs, b_ends, b_todo, b_phase)) : wY_carryOut_193 post x2 x3 x4 x5 x6 x7 1 x9 g_known g_made g_living g_counted g_less g_depth g_begun g_given g_outcome g_isShort g_ran g_put g_ended b_ops b_as b_bs b_cs b_size b_lent b_need b_plans b_keep b_value b_fields b_alive b_method b_pc b_variable b_loan b_outs b_ends b_todo b_phase := br_f tl_n1' h
theorem sy_166f {post : SY → Prop} {x2 x3 x4 x5 x6 x7 al : Int32} (h8 : ¬ x3 = 8) (h : post (g_known, g_made, g_living, g_counted, g_less, g_depth, g_begun, g_given, 1, g_isShort, g_ran, g_put, g_ended, b_ops, b_as, b_bs, b_cs, b_size, b_lent, b_need, b_plans, b_keep, b_value, b_fields, b_alive, b_method, b_pc, b_variable, b_loan, b_outs, b_ends, b_todo, b_phase)) : wY_carryOut_166 post x2 x3 x4 x5 x6 x7 1 al g_known g_made g_living g_counted g_less g_depth g_begun g_given g_outcome g_isShort g_ran g_put g_ended b_ops b_as b_bs b_cs b_size b_lent b_need b_plans b_keep b_value b_fields b_alive b_method b_pc b_variable b_loan b_outs b_ends b_todo b_phase := br_f h8 (sy_193f h)
theorem sy_129 {post : SY → Prop} {x2 x3 x5 x6 : Int32} {w t : Nat} (hw : w < 36) (hM : M ≤ 300) (hD : D ≤ 6) (ht : t ≤ M) (h8 : ¬ x3 = 8)
    (h : post (g_known, nI M, g_living, g_counted, g_less, nI D, g_begun, g_given, 1, g_isShort, g_ran, g_put, g_ended, b_ops, b_as, b_bs, b_cs, b_size, b_lent, b_need, b_plans, b_keep, b_value, b_fields, b_alive, b_method, b_pc, b_variable, b_loan, b_outs, b_ends, b_todo, b_phase)) : wY_carryOut_129 post x2 x3 (nI w) x5 x6 (nI t) g_known (nI M) g_living g_counted g_less (nI D) g_begun g_given g_outcome g_isShort g_ran g_put g_ended b_ops b_as b_bs b_cs b_size b_lent b_need b_plans b_keep b_value b_fields b_alive b_method b_pc b_variable b_loan b_outs b_ends b_todo b_phase := sy_134 hw hM hD ht (sy_166f h8 h)
end
end
section
section
variable {f_known f_depth f_brief f_outCount f_endCount f_ups f_downs f_steps f_made f_alive f_gift f_ended f_stopped : Int32} {a_length a_lends a_ops a_firsts a_seconds a_thirds a_need a_loan a_hands a_keeps a_come a_numbers a_ints a_counts a_fields a_ending a_stage a_fMethod a_fLine a_held a_lent a_outs a_ends : Nat → Int32}
variable {g_known g_made g_living g_counted g_less g_depth g_begun g_given g_outcome g_isShort g_ran g_put g_ended : Int32} {b_ops b_as b_bs b_cs b_size b_lent b_need b_plans b_keep b_value b_fields b_alive b_method b_pc b_variable b_loan b_outs b_ends b_todo b_phase : Nat → Int32}
variable {D M E L S O m i : Nat} {rc : Nat → Nat}
theorem pr_x {post : SX → Prop} {v : Int32} (hO : O < 300) (h : post (f_known, f_depth, f_brief, nI (O + 1), f_endCount, f_ups, f_downs, f_steps, f_made, f_alive, f_gift, f_ended, f_stopped, a_length, a_lends, a_ops, a_firsts, a_seconds, a_thirds, a_need, a_loan, a_hands, a_keeps, a_come, a_numbers, a_ints, a_counts, a_fields, a_ending, a_stage, a_fMethod, a_fLine, a_held, a_lent, upd a_outs O v, a_ends)) : wpX_print post (f_known, f_depth, f_brief, nI O, f_endCount, f_ups, f_downs, f_steps, f_made, f_alive, f_gift, f_ended, f_stopped, a_length, a_lends, a_ops, a_firsts, a_seconds, a_thirds, a_need, a_loan, a_hands, a_keeps, a_come, a_numbers, a_ints, a_counts, a_fields, a_ending, a_stage, a_fMethod, a_fLine, a_held, a_lent, a_outs, a_ends) v := by
  have c : (nI O).toNatClampNeg = O := nI_clamp (by omega)
  exact nm_r (nI_1 O) (And.intro (vp_in_nI hO (by omega)) (nm_r (e' := upd a_outs O v) (by rw [c]) h))
theorem sy_281 {post : SY → Prop} {k o : Nat} {x4 x5 x6 x7 al : Int32} (hD1 : 1 ≤ D) (hD : D ≤ 6) (ho : o < 9) (ep : b_pc (D - 1) = nI i)
    (h : wY_carryOut_294 post (nI k) (nI o) x4 x5 x6 x7 al (nI (i + 1)) (nI (D - 1)) g_known g_made g_living g_counted g_less (nI D) g_begun g_given g_outcome g_isShort g_ran g_put g_ended b_ops b_as b_bs b_cs b_size b_lent b_need b_plans b_keep b_value b_fields b_alive b_method b_pc b_variable b_loan b_outs b_ends b_todo b_phase) : wY_carryOut_193 post (nI k) (nI o) x4 x5 x6 x7 0 al g_known g_made g_living g_counted g_less (nI D) g_begun g_given g_outcome g_isShort g_ran g_put g_ended b_ops b_as b_bs b_cs b_size b_lent b_need b_plans b_keep b_value b_fields b_alive b_method b_pc b_variable b_loan b_outs b_ends b_todo b_phase := by
  have hq : ∀ j : Nat, 9 ≤ j → j < 14 → ¬ nI o = nI j := fun j h1 h2 e => by
    have := tl_inj e (by omega) (by omega)
    omega
  have ed : nI D - 1 = nI (D - 1) := tl_pred hD1
  have cd : (nI (D - 1)).toNatClampNeg = D - 1 := nI_clamp (by omega)
  have vd : vp_in (nI (D - 1)) 6 := vp_in_nI (by omega) (by omega)
  refine br_t rfl (br_f (hq 11 (by omega) (by omega)) (br_f (hq 12 (by omega) (by omega)) (br_f (hq 13 (by omega) (by omega)) (br_f (hq 10 (by omega) (by omega)) (br_f (hq 9 (by omega) (by omega)) ?_)))))
  unfold wY_carryOut_281
  rw [ed, cd, ep, nI_1]
  exact ⟨vd, h⟩
theorem sy_166 {post : SY → Prop} {x2 x3 x4 x5 x6 x7 al : Int32} (h8 : ¬ x3 = 8) (h : wY_carryOut_193 post x2 x3 x4 x5 x6 x7 0 al g_known g_made g_living g_counted g_less g_depth g_begun g_given g_outcome g_isShort g_ran g_put g_ended b_ops b_as b_bs b_cs b_size b_lent b_need b_plans b_keep b_value b_fields b_alive b_method b_pc b_variable b_loan b_outs b_ends b_todo b_phase) : wY_carryOut_166 post x2 x3 x4 x5 x6 x7 0 al g_known g_made g_living g_counted g_less g_depth g_begun g_given g_outcome g_isShort g_ran g_put g_ended b_ops b_as b_bs b_cs b_size b_lent b_need b_plans b_keep b_value b_fields b_alive b_method b_pc b_variable b_loan b_outs b_ends b_todo b_phase := br_f h8 h
/-- OUT -/
theorem op_5 (F : rn_F0 f_brief a_length a_ops a_thirds a_need D M E L S O m i a_numbers a_ints a_counts a_fields a_ending a_stage a_fMethod a_fLine a_held a_lent b_value b_fields b_alive b_variable b_loan b_todo b_phase) (NB : rn_NB f_brief a_length a_need D m i b_variable) (hC : cd_C a_length a_ops a_firsts a_seconds a_thirds b_as b_bs) (hA : an_A a_length a_lends a_ops a_firsts a_seconds a_thirds a_need a_loan a_hands a_keeps a_come b_as b_bs b_need b_plans b_keep) (hi : i < rn_len a_length m) (hS : S < 300) {a : Nat} (ha : a < 6) (ea : a_firsts (16 * m + i) = nI a) (eb : b_as (16 * m + i) = nI a) (eo : a_ops (16 * m + i) = nI 5) : st_O f_known f_brief g_ran a_length a_lends a_ops a_firsts a_seconds a_thirds a_need a_loan a_hands a_keeps a_come b_as b_bs b_need b_plans b_keep D S (fun post => wpX_step post (f_known, nI D, f_brief, nI O, nI E, f_ups, f_downs, nI (S + 1), nI M, nI L, 0, (-1), (-1), a_length, a_lends, a_ops, a_firsts, a_seconds, a_thirds, a_need, a_loan, a_hands, a_keeps, a_come, a_numbers, a_ints, a_counts, a_fields, a_ending, a_stage, a_fMethod, a_fLine, a_held, a_lent, a_outs, a_ends) (nI (16 * m + i)) (nI i)) (fun post => wpY_carryOut post (f_known, nI M, nI L, f_ups, f_downs, nI D, nI (S + 1), 0, (-1), f_brief, g_ran, nI O, nI E, a_ops, b_as, b_bs, a_thirds, a_length, a_lends, b_need, b_plans, b_keep, b_value, b_fields, b_alive, a_fMethod, a_fLine, b_variable, b_loan, a_outs, a_ends, b_todo, b_phase) (nI (6 * (D - 1))) (nI (16 * m + i))) := by
  have hv := st_var ha F NB
  have F' := F
  obtain ⟨hD1, hD6, hMS, hOS, hS3, hm, hi16, eM, eL, hfr, H, V, LS⟩ := F'
  obtain ⟨hL24, hEL, hM⟩ := hp_L24 H
  have hl16 := (cd_len hC hm).1
  have ck : (nI (16 * m + i)).toNatClampNeg = 16 * m + i := nI_clamp (by omega)
  have vk : vp_in (nI (16 * m + i)) 64 := vp_in_nI (by omega) (by omega)
  have cd : (nI (D - 1)).toNatClampNeg = D - 1 := nI_clamp (by omega)
  have vd : vp_in (nI (D - 1)) 6 := vp_in_nI (by omega) (by omega)
  have cO : (nI O).toNatClampNeg = O := nI_clamp (by omega)
  have vO : vp_in (nI O) 300 := vp_in_nI (by omega) (by omega)
  have LS1 := st_lsm hD1 (i1 := i + 1) (Or.inl ⟨by rw [eo]; decide, by rw [eo]; decide, by rw [eo]; decide, rfl⟩) NB LS
  have F1 : rn_F0 f_brief a_length a_ops a_thirds a_need D M E L (S + 1) (O + 1) m (i + 1) a_numbers a_ints a_counts a_fields a_ending a_stage a_fMethod (upd a_fLine (D - 1) (nI (i + 1))) a_held a_lent b_value b_fields b_alive b_variable b_loan b_todo b_phase := st_F0 F hS (by omega) (by omega) (by omega) H V LS1
  rcases hv with ⟨ex, ey⟩ | ⟨q, t, hq, h1, hM', ex, ey, hn, hal⟩
  · refine Or.inl ⟨D, M, E, L, S + 1, O + 1, m, i + 1, f_ups, f_downs, a_numbers, a_ints, a_counts, a_fields, a_ending, a_stage, a_fMethod, upd a_fLine (D - 1) (nI (i + 1)), a_held, a_lent, upd a_outs O 0, a_ends, b_value, b_fields, b_alive, b_variable, b_loan, b_todo, b_phase, F1, by omega, fun u hdr post hp => ?_, fun post hp => ?_⟩
    · refine And.intro vk (nm_r (e' := nI a) (by rw [ck]; exact ea) (And.intro vk (nm_r (e' := nI 5) (by rw [ck]; exact eo) (br_f (by decide) (br_f (by decide) (br_f (by decide) (br_f (by decide) (br_f (by decide) (br_f (by decide) (br_f (by decide) (br_t rfl (vg_var hD1 hD6 ha ?_))))))))))))
      rw [ex]
      exact br_f tl_m1le (pr_x (by omega) (st_xn hD1 hD6 (by omega) (by omega) eo (by decide) (by decide) tl_n1' hdr hp))
    · refine sy_in (a := a) (o := 5) hD1 hD6 (by omega) ha eo eb (by decide) (by decide) ?_
      rw [ey]
      refine sy_ok (t := 0) (by omega) hM hD6 (by omega) (by omega) (fun z => by omega) (fun z => by omega) (fun z => by omega) (fun z => by omega) (sy_166 (by decide) (sy_281 hD1 hD6 (by omega) eL ?_))
      exact And.intro vd (nm_r (e' := upd a_fLine (D - 1) (nI (i + 1))) (by rw [cd]) (br_t rfl (nm_r (nI_1 O) (br_t rfl ⟨vO, nm_r (e' := upd a_outs O 0) (by rw [cO]) hp⟩))))
  · have hval := (H.2.2.2.2.2.2.2.1 q t hq h1 hM' hn hal).1
    refine Or.inl ⟨D, M, E, L, S + 1, O + 1, m, i + 1, f_ups, f_downs, a_numbers, a_ints, a_counts, a_fields, a_ending, a_stage, a_fMethod, upd a_fLine (D - 1) (nI (i + 1)), a_held, a_lent, upd a_outs O (b_value t), a_ends, b_value, b_fields, b_alive, b_variable, b_loan, b_todo, b_phase, F1, by omega, fun u hdr post hp => ?_, fun post hp => ?_⟩
    · refine And.intro vk (nm_r (e' := nI a) (by rw [ck]; exact ea) (And.intro vk (nm_r (e' := nI 5) (by rw [ck]; exact eo) (br_f (by decide) (br_f (by decide) (br_f (by decide) (br_f (by decide) (br_f (by decide) (br_f (by decide) (br_f (by decide) (br_t rfl (vg_var hD1 hD6 ha ?_))))))))))))
      rw [ex]
      refine br_t (nI_pos' (by omega)) (vg_var hD1 hD6 ha ?_)
      rw [ex, nI_clamp (by omega), hval]
      exact ⟨vp_in_nI hq (by omega), pr_x (by omega) (st_xn hD1 hD6 (by omega) (by omega) eo (by decide) (by decide) tl_n1' hdr hp)⟩
    · refine sy_in (a := a) (o := 5) hD1 hD6 (by omega) ha eo eb (by decide) (by decide) ?_
      rw [ey]
      refine sy_ok (t := t) (by omega) hM hD6 hM' (by omega) (fun z => by omega) (fun z => by omega) (fun z => by omega) (fun z => by omega) (sy_166 (by decide) (sy_281 hD1 hD6 (by omega) eL ?_))
      exact And.intro vd (nm_r (e' := upd a_fLine (D - 1) (nI (i + 1))) (by rw [cd]) (br_t rfl (nm_r (nI_1 O) (br_f (nI_ne0 h1 (by omega)) ⟨vp_in_nI (by omega) (by omega), vO, nm_r (e' := upd a_outs O (b_value t)) (by rw [cO, nI_clamp (by omega)]) hp⟩))))
/-- ADD -/
theorem op_6 (F : rn_F0 f_brief a_length a_ops a_thirds a_need D M E L S O m i a_numbers a_ints a_counts a_fields a_ending a_stage a_fMethod a_fLine a_held a_lent b_value b_fields b_alive b_variable b_loan b_todo b_phase) (NB : rn_NB f_brief a_length a_need D m i b_variable) (hC : cd_C a_length a_ops a_firsts a_seconds a_thirds b_as b_bs) (hA : an_A a_length a_lends a_ops a_firsts a_seconds a_thirds a_need a_loan a_hands a_keeps a_come b_as b_bs b_need b_plans b_keep) (hi : i < rn_len a_length m) (hS : S < 300) {a : Nat} (ha : a < 6) (ea : a_firsts (16 * m + i) = nI a) (eb : b_as (16 * m + i) = nI a) (eo : a_ops (16 * m + i) = nI 6) : st_O f_known f_brief g_ran a_length a_lends a_ops a_firsts a_seconds a_thirds a_need a_loan a_hands a_keeps a_come b_as b_bs b_need b_plans b_keep D S (fun post => wpX_step post (f_known, nI D, f_brief, nI O, nI E, f_ups, f_downs, nI (S + 1), nI M, nI L, 0, (-1), (-1), a_length, a_lends, a_ops, a_firsts, a_seconds, a_thirds, a_need, a_loan, a_hands, a_keeps, a_come, a_numbers, a_ints, a_counts, a_fields, a_ending, a_stage, a_fMethod, a_fLine, a_held, a_lent, a_outs, a_ends) (nI (16 * m + i)) (nI i)) (fun post => wpY_carryOut post (f_known, nI M, nI L, f_ups, f_downs, nI D, nI (S + 1), 0, (-1), f_brief, g_ran, nI O, nI E, a_ops, b_as, b_bs, a_thirds, a_length, a_lends, b_need, b_plans, b_keep, b_value, b_fields, b_alive, a_fMethod, a_fLine, b_variable, b_loan, a_outs, a_ends, b_todo, b_phase) (nI (6 * (D - 1))) (nI (16 * m + i))) := by
  have hv := st_var ha F NB
  have F' := F
  obtain ⟨hD1, hD6, hMS, hOS, hS3, hm, hi16, eM, eL, hfr, H, V, LS⟩ := F'
  obtain ⟨hL24, hEL, hM⟩ := hp_L24 H
  have hl16 := (cd_len hC hm).1
  have ck : (nI (16 * m + i)).toNatClampNeg = 16 * m + i := nI_clamp (by omega)
  have vk : vp_in (nI (16 * m + i)) 64 := vp_in_nI (by omega) (by omega)
  have cd : (nI (D - 1)).toNatClampNeg = D - 1 := nI_clamp (by omega)
  have vd : vp_in (nI (D - 1)) 6 := vp_in_nI (by omega) (by omega)
  rcases hv with ⟨ex, ey⟩ | ⟨q, t, hq, h1, hM', ex, ey, hn, hal⟩
  · have F1 : rn_F0 f_brief a_length a_ops a_thirds a_need D M E L (S + 1) O m i a_numbers a_ints a_counts a_fields a_ending a_stage a_fMethod a_fLine a_held a_lent b_value b_fields b_alive b_variable b_loan b_todo b_phase := ⟨hD1, hD6, by omega, by omega, by omega, hm, hi16, eM, eL, hfr, H, V, LS⟩
    refine Or.inr (Or.inl ⟨1, D, M, E, L, S + 1, O, m, i, f_ups, f_downs, a_numbers, a_ints, a_counts, a_fields, a_ending, a_stage, a_fMethod, a_fLine, a_held, a_lent, a_outs, a_ends, b_value, b_fields, b_alive, b_variable, b_loan, b_todo, b_phase, Or.inl rfl, F1, fun post hp => ?_, fun post hp => ?_⟩)
    · refine And.intro vk (nm_r (e' := nI a) (by rw [ck]; exact ea) (And.intro vk (nm_r (e' := nI 6) (by rw [ck]; exact eo) (br_f (by decide) (br_f (by decide) (br_f (by decide) (br_f (by decide) (br_f (by decide) (br_f (by decide) (br_f (by decide) (br_f (by decide) (br_t rfl ⟨vk, ?_⟩))))))))))))
      unfold wpX_grow
      refine vg_var hD1 hD6 ha ?_
      rw [ex]
      exact br_f tl_m1le (st_xf hp)
    · refine sy_in (a := a) (o := 6) hD1 hD6 (by omega) ha eo eb (by decide) (by decide) ?_
      rw [ey]
      exact br_f (by decide) (br_f (by decide) (br_t rfl (br_t rfl (sy_129 (t := 0) (by omega) hM hD6 (by omega) (by decide) hp))))
  · have LS1 := st_lsm hD1 (i1 := i + 1) (Or.inl ⟨by rw [eo]; decide, by rw [eo]; decide, by rw [eo]; decide, rfl⟩) NB LS
    have H1 := hp_grow (v := a_thirds (16 * m + i)) hq h1 hM' hn hal H
    have F1 : rn_F0 f_brief a_length a_ops a_thirds a_need D M E L (S + 1) O m (i + 1) a_numbers (upd a_ints q (a_ints q + a_thirds (16 * m + i))) a_counts a_fields a_ending a_stage a_fMethod (upd a_fLine (D - 1) (nI (i + 1))) a_held a_lent (upd b_value t (b_value t + a_thirds (16 * m + i))) b_fields b_alive b_variable b_loan b_todo b_phase := st_F0 F hS (by omega) (by omega) (by omega) H1 V LS1
    refine Or.inl ⟨D, M, E, L, S + 1, O, m, i + 1, f_ups, f_downs, a_numbers, upd a_ints q (a_ints q + a_thirds (16 * m + i)), a_counts, a_fields, a_ending, a_stage, a_fMethod, upd a_fLine (D - 1) (nI (i + 1)), a_held, a_lent, a_outs, a_ends, upd b_value t (b_value t + a_thirds (16 * m + i)), b_fields, b_alive, b_variable, b_loan, b_todo, b_phase, F1, by omega, fun u hdr post hp => ?_, fun post hp => ?_⟩
    · refine And.intro vk (nm_r (e' := nI a) (by rw [ck]; exact ea) (And.intro vk (nm_r (e' := nI 6) (by rw [ck]; exact eo) (br_f (by decide) (br_f (by decide) (br_f (by decide) (br_f (by decide) (br_f (by decide) (br_f (by decide) (br_f (by decide) (br_f (by decide) (br_t rfl ⟨vk, ?_⟩))))))))))))
      unfold wpX_grow
      refine vg_var hD1 hD6 ha ?_
      rw [ex]
      refine br_t (nI_pos' (by omega)) (vg_var hD1 hD6 ha ?_)
      rw [ex, nI_clamp (by omega), ck]
      exact ⟨vp_in_nI hq (by omega), vp_in_nI hq (by omega), nm_e (st_xn hD1 hD6 (by omega) (by omega) eo (by decide) (by decide) tl_n1' hdr hp)⟩
    · refine sy_in (a := a) (o := 6) hD1 hD6 (by omega) ha eo eb (by decide) (by decide) ?_
      rw [ey]
      refine sy_ok (t := t) (by omega) hM hD6 hM' (by omega) (fun z => by omega) (fun z => by omega) (fun z => by omega) (fun z => by omega) (sy_166 (by decide) (sy_281 hD1 hD6 (by omega) eL ?_))
      have ct : (nI t).toNatClampNeg = t := nI_clamp (by omega)
      have vt : vp_in (nI t) 301 := vp_in_nI (by omega) (by omega)
      exact And.intro vd (nm_r (e' := upd a_fLine (D - 1) (nI (i + 1))) (by rw [cd]) (br_f (by decide) (br_f (by decide) (br_t rfl ⟨vt, vt, nm_r (e' := upd b_value t (b_value t + a_thirds (16 * m + i))) (by rw [ct]) hp⟩))))
/-- ONLY -/
theorem op_7 (F : rn_F0 f_brief a_length a_ops a_thirds a_need D M E L S O m i a_numbers a_ints a_counts a_fields a_ending a_stage a_fMethod a_fLine a_held a_lent b_value b_fields b_alive b_variable b_loan b_todo b_phase) (NB : rn_NB f_brief a_length a_need D m i b_variable) (hC : cd_C a_length a_ops a_firsts a_seconds a_thirds b_as b_bs) (hA : an_A a_length a_lends a_ops a_firsts a_seconds a_thirds a_need a_loan a_hands a_keeps a_come b_as b_bs b_need b_plans b_keep) (hi : i < rn_len a_length m) (hS : S < 300) {a : Nat} (ha : a < 6) (ea : a_firsts (16 * m + i) = nI a) (eb : b_as (16 * m + i) = nI a) (eo : a_ops (16 * m + i) = nI 7) : st_O f_known f_brief g_ran a_length a_lends a_ops a_firsts a_seconds a_thirds a_need a_loan a_hands a_keeps a_come b_as b_bs b_need b_plans b_keep D S (fun post => wpX_step post (f_known, nI D, f_brief, nI O, nI E, f_ups, f_downs, nI (S + 1), nI M, nI L, 0, (-1), (-1), a_length, a_lends, a_ops, a_firsts, a_seconds, a_thirds, a_need, a_loan, a_hands, a_keeps, a_come, a_numbers, a_ints, a_counts, a_fields, a_ending, a_stage, a_fMethod, a_fLine, a_held, a_lent, a_outs, a_ends) (nI (16 * m + i)) (nI i)) (fun post => wpY_carryOut post (f_known, nI M, nI L, f_ups, f_downs, nI D, nI (S + 1), 0, (-1), f_brief, g_ran, nI O, nI E, a_ops, b_as, b_bs, a_thirds, a_length, a_lends, b_need, b_plans, b_keep, b_value, b_fields, b_alive, a_fMethod, a_fLine, b_variable, b_loan, a_outs, a_ends, b_todo, b_phase) (nI (6 * (D - 1))) (nI (16 * m + i))) := by
  have hv := st_var ha F NB
  have F' := F
  obtain ⟨hD1, hD6, hMS, hOS, hS3, hm, hi16, eM, eL, hfr, H, V, LS⟩ := F'
  obtain ⟨hL24, hEL, hM⟩ := hp_L24 H
  have hl16 := (cd_len hC hm).1
  have ck : (nI (16 * m + i)).toNatClampNeg = 16 * m + i := nI_clamp (by omega)
  have vk : vp_in (nI (16 * m + i)) 64 := vp_in_nI (by omega) (by omega)
  have cd : (nI (D - 1)).toNatClampNeg = D - 1 := nI_clamp (by omega)
  have vd : vp_in (nI (D - 1)) 6 := vp_in_nI (by omega) (by omega)
  have cO : (nI O).toNatClampNeg = O := nI_clamp (by omega)
  have vO : vp_in (nI O) 300 := vp_in_nI (by omega) (by omega)
  have LS1 := st_lsm hD1 (i1 := i + 1) (Or.inl ⟨by rw [eo]; decide, by rw [eo]; decide, by rw [eo]; decide, rfl⟩) NB LS
  have F1 : rn_F0 f_brief a_length a_ops a_thirds a_need D M E L (S + 1) (O + 1) m (i + 1) a_numbers a_ints a_counts a_fields a_ending a_stage a_fMethod (upd a_fLine (D - 1) (nI (i + 1))) a_held a_lent b_value b_fields b_alive b_variable b_loan b_todo b_phase := st_F0 F hS (by omega) (by omega) (by omega) H V LS1
  obtain ⟨t, ht, ey⟩ : ∃ t, t ≤ M ∧ b_variable (6 * (D - 1) + a) = nI t := by
    rcases hv with ⟨ex, ey⟩ | ⟨q, t, hq, h1, hM', ex, ey, hn, hal⟩
    · exact ⟨0, by omega, ey⟩
    · exact ⟨t, hM', ey⟩
  have hal01 := st_al01 (hp_RC 0 b_variable b_loan D t + hp_FC b_fields M t) (nI t) (b_loan (6 * (D - 1) + a))
  refine Or.inl ⟨D, M, E, L, S + 1, O + 1, m, i + 1, f_ups, f_downs, a_numbers, a_ints, a_counts, a_fields, a_ending, a_stage, a_fMethod, upd a_fLine (D - 1) (nI (i + 1)), a_held, a_lent, upd a_outs O (st_al (hp_RC 0 b_variable b_loan D t + hp_FC b_fields M t) (nI t) (b_loan (6 * (D - 1) + a))), a_ends, b_value, b_fields, b_alive, b_variable, b_loan, b_todo, b_phase, F1, by omega, fun u hdr post hp => ?_, fun post hp => ?_⟩
  · refine And.intro vk (nm_r (e' := nI a) (by rw [ck]; exact ea) (And.intro vk (nm_r (e' := nI 7) (by rw [ck]; exact eo) (br_f (by decide) (br_f (by decide) (br_f (by decide) (br_f (by decide) (br_f (by decide) (br_f (by decide) (br_f (by decide) (br_f (by decide) (br_f (by decide) (br_t rfl (st_only ha F NB ?_))))))))))))))
    rw [ey, nI_clamp (by omega)]
    rcases hal01 with z | z
    · rw [z] at hdr ⊢
      exact br_t rfl (pr_x (by omega) (st_xn hD1 hD6 (by omega) (by omega) eo (by decide) (by decide) tl_n1' hdr hp))
    · rw [z] at hdr ⊢
      exact br_f tl_n1' (pr_x (by omega) (st_xn hD1 hD6 (by omega) (by omega) eo (by decide) (by decide) tl_n1' hdr hp))
  · refine sy_in (a := a) (o := 7) hD1 hD6 (by omega) ha eo eb (by decide) (by decide) ?_
    rw [ey]
    refine sy_ok (t := t) (by omega) hM hD6 ht (by omega) (fun z => by omega) (fun z => by omega) (fun z => by omega) (fun z => by omega) (sy_166 (by decide) (sy_281 hD1 hD6 (by omega) eL ?_))
    refine And.intro vd (nm_r (e' := upd a_fLine (D - 1) (nI (i + 1))) (by rw [cd]) (br_f (by decide) (br_t rfl (nm_r (nI_1 O) ?_))))
    rcases hal01 with z | z
    · rw [z] at hp ⊢
      exact br_t rfl ⟨vO, nm_r (e' := upd a_outs O 0) (by rw [cO]) hp⟩
    · rw [z] at hp ⊢
      exact br_f tl_n1' ⟨vO, nm_r (e' := upd a_outs O 1) (by rw [cO]) hp⟩
/-- GO -/
theorem op_10 (F : rn_F0 f_brief a_length a_ops a_thirds a_need D M E L S O m i a_numbers a_ints a_counts a_fields a_ending a_stage a_fMethod a_fLine a_held a_lent b_value b_fields b_alive b_variable b_loan b_todo b_phase) (NB : rn_NB f_brief a_length a_need D m i b_variable) (hC : cd_C a_length a_ops a_firsts a_seconds a_thirds b_as b_bs) (hA : an_A a_length a_lends a_ops a_firsts a_seconds a_thirds a_need a_loan a_hands a_keeps a_come b_as b_bs b_need b_plans b_keep) (hi : i < rn_len a_length m) (hS : S < 300) {c : Nat} (hc : c < 16) (ec : a_thirds (16 * m + i) = nI c) (eo : a_ops (16 * m + i) = nI 10) : st_O f_known f_brief g_ran a_length a_lends a_ops a_firsts a_seconds a_thirds a_need a_loan a_hands a_keeps a_come b_as b_bs b_need b_plans b_keep D S (fun post => wpX_step post (f_known, nI D, f_brief, nI O, nI E, f_ups, f_downs, nI (S + 1), nI M, nI L, 0, (-1), (-1), a_length, a_lends, a_ops, a_firsts, a_seconds, a_thirds, a_need, a_loan, a_hands, a_keeps, a_come, a_numbers, a_ints, a_counts, a_fields, a_ending, a_stage, a_fMethod, a_fLine, a_held, a_lent, a_outs, a_ends) (nI (16 * m + i)) (nI i)) (fun post => wpY_carryOut post (f_known, nI M, nI L, f_ups, f_downs, nI D, nI (S + 1), 0, (-1), f_brief, g_ran, nI O, nI E, a_ops, b_as, b_bs, a_thirds, a_length, a_lends, b_need, b_plans, b_keep, b_value, b_fields, b_alive, a_fMethod, a_fLine, b_variable, b_loan, a_outs, a_ends, b_todo, b_phase) (nI (6 * (D - 1))) (nI (16 * m + i))) := by
  have F' := F
  obtain ⟨hD1, hD6, hMS, hOS, hS3, hm, hi16, eM, eL, hfr, H, V, LS⟩ := F'
  obtain ⟨hL24, hEL, hM⟩ := hp_L24 H
  have hl16 := (cd_len hC hm).1
  have ck : (nI (16 * m + i)).toNatClampNeg = 16 * m + i := nI_clamp (by omega)
  have vk : vp_in (nI (16 * m + i)) 64 := vp_in_nI (by omega) (by omega)
  have ed : nI D - 1 = nI (D - 1) := tl_pred hD1
  have cd : (nI (D - 1)).toNatClampNeg = D - 1 := nI_clamp (by omega)
  have vd : vp_in (nI (D - 1)) 6 := vp_in_nI (by omega) (by omega)
  have LS1 := st_lsm hD1 (i1 := c) (Or.inr ⟨Or.inr eo, ec⟩) NB LS
  have F1 : rn_F0 f_brief a_length a_ops a_thirds a_need D M E L (S + 1) O m c a_numbers a_ints a_counts a_fields a_ending a_stage a_fMethod (upd a_fLine (D - 1) (nI c)) a_held a_lent b_value b_fields b_alive b_variable b_loan b_todo b_phase := st_F0 F hS (by omega) (by omega) (by omega) H V LS1
  refine Or.inl ⟨D, M, E, L, S + 1, O, m, c, f_ups, f_downs, a_numbers, a_ints, a_counts, a_fields, a_ending, a_stage, a_fMethod, upd a_fLine (D - 1) (nI c), a_held, a_lent, a_outs, a_ends, b_value, b_fields, b_alive, b_variable, b_loan, b_todo, b_phase, F1, by omega, fun u hdr post hp => ?_, fun post hp => ?_⟩
  · exact And.intro vk (nm_e (And.intro vk (nm_r (e' := nI 10) (by rw [ck]; exact eo) (br_f (by decide) (br_f (by decide) (br_f (by decide) (br_f (by decide) (br_f (by decide) (br_f (by decide) (br_f (by decide) (br_f (by decide) (br_f (by decide) (br_f (by decide) (br_f (by decide) (br_f (by decide) (br_t rfl (st_xgo hD1 hD6 (by omega) hc eo ec hdr hp)))))))))))))))))
  · unfold wpY_carryOut
    dsimp only
    rw [ck, ec]
    refine ⟨vk, nm_r eo ⟨vk, nm_e ⟨vk, nm_e ⟨vk, nm_e (br_t rfl (br_f (by decide) (br_f (by decide) (br_f (by decide) (br_f (by decide) (br_f (by decide) (br_t (by decide) (br_f (by decide) (br_t rfl (br_f (by decide) (br_f (by decide) (br_f (by decide) (br_t rfl ?_)))))))))))))⟩⟩⟩⟩
    rw [ed]
    exact And.intro vd (nm_r (e' := upd a_fLine (D - 1) (nI c)) (by rw [cd]) (br_f (by decide) (br_f (by decide) (br_f (by decide) (br_f (by decide) (br_t (by decide) hp))))))
/-- IFNONE -/
theorem op_9 (F : rn_F0 f_brief a_length a_ops a_thirds a_need D M E L S O m i a_numbers a_ints a_counts a_fields a_ending a_stage a_fMethod a_fLine a_held a_lent b_value b_fields b_alive b_variable b_loan b_todo b_phase) (NB : rn_NB f_brief a_length a_need D m i b_variable) (hC : cd_C a_length a_ops a_firsts a_seconds a_thirds b_as b_bs) (hA : an_A a_length a_lends a_ops a_firsts a_seconds a_thirds a_need a_loan a_hands a_keeps a_come b_as b_bs b_need b_plans b_keep) (hi : i < rn_len a_length m) (hS : S < 300) {a : Nat} (ha : a < 6) (ea : a_firsts (16 * m + i) = nI a) (eb : b_as (16 * m + i) = nI a) {c : Nat} (hc : c < 16) (ec : a_thirds (16 * m + i) = nI c) (eo : a_ops (16 * m + i) = nI 9) : st_O f_known f_brief g_ran a_length a_lends a_ops a_firsts a_seconds a_thirds a_need a_loan a_hands a_keeps a_come b_as b_bs b_need b_plans b_keep D S (fun post => wpX_step post (f_known, nI D, f_brief, nI O, nI E, f_ups, f_downs, nI (S + 1), nI M, nI L, 0, (-1), (-1), a_length, a_lends, a_ops, a_firsts, a_seconds, a_thirds, a_need, a_loan, a_hands, a_keeps, a_come, a_numbers, a_ints, a_counts, a_fields, a_ending, a_stage, a_fMethod, a_fLine, a_held, a_lent, a_outs, a_ends) (nI (16 * m + i)) (nI i)) (fun post => wpY_carryOut post (f_known, nI M, nI L, f_ups, f_downs, nI D, nI (S + 1), 0, (-1), f_brief, g_ran, nI O, nI E, a_ops, b_as, b_bs, a_thirds, a_length, a_lends, b_need, b_plans, b_keep, b_value, b_fields, b_alive, a_fMethod, a_fLine, b_variable, b_loan, a_outs, a_ends, b_todo, b_phase) (nI (6 * (D - 1))) (nI (16 * m + i))) := by
  have hv := st_var ha F NB
  have F' := F
  obtain ⟨hD1, hD6, hMS, hOS, hS3, hm, hi16, eM, eL, hfr, H, V, LS⟩ := F'
  obtain ⟨hL24, hEL, hM⟩ := hp_L24 H
  have hl16 := (cd_len hC hm).1
  have ck : (nI (16 * m + i)).toNatClampNeg = 16 * m + i := nI_clamp (by omega)
  have vk : vp_in (nI (16 * m + i)) 64 := vp_in_nI (by omega) (by omega)
  have ed : nI D - 1 = nI (D - 1) := tl_pred hD1
  have cd : (nI (D - 1)).toNatClampNeg = D - 1 := nI_clamp (by omega)
  have vd : vp_in (nI (D - 1)) 6 := vp_in_nI (by omega) (by omega)
  rcases hv with ⟨ex, ey⟩ | ⟨q, t, hq, h1, hM', ex, ey, hn, hal⟩
  · have LS1 := st_lsm hD1 (i1 := c) (Or.inr ⟨Or.inl eo, ec⟩) NB LS
    have F1 : rn_F0 f_brief a_length a_ops a_thirds a_need D M E L (S + 1) O m c a_numbers a_ints a_counts a_fields a_ending a_stage a_fMethod (upd a_fLine (D - 1) (nI c)) a_held a_lent b_value b_fields b_alive b_variable b_loan b_todo b_phase := st_F0 F hS (by omega) (by omega) (by omega) H V LS1
    refine Or.inl ⟨D, M, E, L, S + 1, O, m, c, f_ups, f_downs, a_numbers, a_ints, a_counts, a_fields, a_ending, a_stage, a_fMethod, upd a_fLine (D - 1) (nI c), a_held, a_lent, a_outs, a_ends, b_value, b_fields, b_alive, b_variable, b_loan, b_todo, b_phase, F1, by omega, fun u hdr post hp => ?_, fun post hp => ?_⟩
    · exact And.intro vk (nm_r (e' := nI a) (by rw [ck]; exact ea) (And.intro vk (nm_r (e' := nI 9) (by rw [ck]; exact eo) (br_f (by decide) (br_f (by decide) (br_f (by decide) (br_f (by decide) (br_f (by decide) (br_f (by decide) (br_f (by decide) (br_f (by decide) (br_f (by decide) (br_f (by decide) (br_f (by decide) (br_t rfl (st_xif hD1 hD6 (by omega) hc ha (by omega) eo ec (by rw [ex, if_pos tl_m1lt]) hdr hp))))))))))))))))
    · refine sy_in (a := a) (o := 9) hD1 hD6 (by omega) ha eo eb (by decide) (by decide) ?_
      rw [ey]
      refine sy_ok (t := 0) (by omega) hM hD6 (by omega) (by omega) (fun z => by omega) (fun z => by omega) (fun z => by omega) (fun z => by omega) (sy_166 (by decide) (br_t rfl (br_f (by decide) (br_f (by decide) (br_f (by decide) (br_f (by decide) (br_t rfl (br_t rfl ?_))))))))
      rw [ed, ec]
      exact And.intro vd (nm_r (e' := upd a_fLine (D - 1) (nI c)) (by rw [cd]) (br_f (by decide) (br_f (by decide) (br_f (by decide) (br_f (by decide) (br_t (by decide) hp))))))
  · have LS1 := st_lsm hD1 (i1 := i + 1) (Or.inl ⟨by rw [eo]; decide, by rw [eo]; decide, by rw [eo]; decide, rfl⟩) NB LS
    have F1 : rn_F0 f_brief a_length a_ops a_thirds a_need D M E L (S + 1) O m (i + 1) a_numbers a_ints a_counts a_fields a_ending a_stage a_fMethod (upd a_fLine (D - 1) (nI (i + 1))) a_held a_lent b_value b_fields b_alive b_variable b_loan b_todo b_phase := st_F0 F hS (by omega) (by omega) (by omega) H V LS1
    refine Or.inl ⟨D, M, E, L, S + 1, O, m, i + 1, f_ups, f_downs, a_numbers, a_ints, a_counts, a_fields, a_ending, a_stage, a_fMethod, upd a_fLine (D - 1) (nI (i + 1)), a_held, a_lent, a_outs, a_ends, b_value, b_fields, b_alive, b_variable, b_loan, b_todo, b_phase, F1, by omega, fun u hdr post hp => ?_, fun post hp => ?_⟩
    · exact And.intro vk (nm_r (e' := nI a) (by rw [ck]; exact ea) (And.intro vk (nm_r (e' := nI 9) (by rw [ck]; exact eo) (br_f (by decide) (br_f (by decide) (br_f (by decide) (br_f (by decide) (br_f (by decide) (br_f (by decide) (br_f (by decide) (br_f (by decide) (br_f (by decide) (br_f (by decide) (br_f (by decide) (br_t rfl (st_xif hD1 hD6 (by omega) hc ha (by omega) eo ec (by rw [ex, if_neg (nI_pos (by omega))]) hdr hp))))))))))))))))
    · refine sy_in (a := a) (o := 9) hD1 hD6 (by omega) ha eo eb (by decide) (by decide) ?_
      rw [ey]
      refine sy_ok (t := t) (by omega) hM hD6 hM' (by omega) (fun z => by omega) (fun z => by omega) (fun z => by omega) (fun z => by omega) (sy_166 (by decide) (br_t rfl (br_f (by decide) (br_f (by decide) (br_f (by decide) (br_f (by decide) (br_t rfl (br_f (nI_ne0 h1 (by omega)) ?_))))))))
      unfold wY_carryOut_281
      rw [ed, cd, eL, nI_1]
      exact ⟨vd, And.intro vd (nm_r (e' := upd a_fLine (D - 1) (nI (i + 1))) (by rw [cd]) (br_f (by decide) (br_f (by decide) (br_f (by decide) (br_f (by decide) (br_t (by decide) hp))))))⟩
end
end
section
section
variable {f_known f_depth f_brief f_outCount f_endCount f_ups f_downs f_steps f_made f_alive f_gift f_ended f_stopped : Int32} {a_length a_lends a_ops a_firsts a_seconds a_thirds a_need a_loan a_hands a_keeps a_come a_numbers a_ints a_counts a_fields a_ending a_stage a_fMethod a_fLine a_held a_lent a_outs a_ends : Nat → Int32}
variable {g_known g_made g_living g_counted g_less g_depth g_begun g_given g_outcome g_isShort g_ran g_put g_ended : Int32} {b_ops b_as b_bs b_cs b_size b_lent b_need b_plans b_keep b_value b_fields b_alive b_method b_pc b_variable b_loan b_outs b_ends b_todo b_phase : Nat → Int32}
variable {D M E L S O m i : Nat} {rc : Nat → Nat}
theorem op_pl {m i : Nat} (hA : an_A a_length a_lends a_ops a_firsts a_seconds a_thirds a_need a_loan a_hands a_keeps a_come b_as b_bs b_need b_plans b_keep) (hm : m < 4) (hi : i < rn_len a_length m) : (b_plans (16 * m + i) = 2 ↔ a_hands (16 * m + i) ≠ 0) ∧ (b_plans (16 * m + i) = 1 ↔ a_loan (16 * m + i) ≠ 0) := by
  obtain ⟨_, _, k1, _, _, _, _, k2⟩ := hA m i hm hi
  rw [k1]
  by_cases z : a_loan (16 * m + i) = 0
  · rw [if_neg (fun q => q z)]
    by_cases z2 : a_hands (16 * m + i) = 0
    · rw [if_neg (fun q => q z2)]
      exact ⟨⟨fun q => absurd q (by decide), fun q => absurd z2 q⟩, ⟨fun q => absurd q (by decide), fun q => absurd z q⟩⟩
    · rw [if_pos z2]
      exact ⟨⟨fun _ => z2, fun _ => rfl⟩, ⟨fun q => absurd q (by decide), fun q => absurd z q⟩⟩
  · rw [if_pos z]
    exact ⟨⟨fun q => absurd q (by decide), fun q => absurd (k2 z).1 q⟩, ⟨fun _ => z, fun _ => rfl⟩⟩
/-- NEW -/
theorem op_0 (F : rn_F0 f_brief a_length a_ops a_thirds a_need D M E L S O m i a_numbers a_ints a_counts a_fields a_ending a_stage a_fMethod a_fLine a_held a_lent b_value b_fields b_alive b_variable b_loan b_todo b_phase) (NB : rn_NB f_brief a_length a_need D m i b_variable) (hC : cd_C a_length a_ops a_firsts a_seconds a_thirds b_as b_bs) (hA : an_A a_length a_lends a_ops a_firsts a_seconds a_thirds a_need a_loan a_hands a_keeps a_come b_as b_bs b_need b_plans b_keep) (hi : i < rn_len a_length m) (hS : S < 300) {a : Nat} (ha : a < 6) (ea : a_firsts (16 * m + i) = nI a) (eb : b_as (16 * m + i) = nI a) (eo : a_ops (16 * m + i) = nI 0) : st_O f_known f_brief g_ran a_length a_lends a_ops a_firsts a_seconds a_thirds a_need a_loan a_hands a_keeps a_come b_as b_bs b_need b_plans b_keep D S (fun post => wpX_step post (f_known, nI D, f_brief, nI O, nI E, f_ups, f_downs, nI (S + 1), nI M, nI L, 0, (-1), (-1), a_length, a_lends, a_ops, a_firsts, a_seconds, a_thirds, a_need, a_loan, a_hands, a_keeps, a_come, a_numbers, a_ints, a_counts, a_fields, a_ending, a_stage, a_fMethod, a_fLine, a_held, a_lent, a_outs, a_ends) (nI (16 * m + i)) (nI i)) (fun post => wpY_carryOut post (f_known, nI M, nI L, f_ups, f_downs, nI D, nI (S + 1), 0, (-1), f_brief, g_ran, nI O, nI E, a_ops, b_as, b_bs, a_thirds, a_length, a_lends, b_need, b_plans, b_keep, b_value, b_fields, b_alive, a_fMethod, a_fLine, b_variable, b_loan, a_outs, a_ends, b_todo, b_phase) (nI (6 * (D - 1))) (nI (16 * m + i))) := by
  have hv := st_var ha F NB
  have F' := F
  obtain ⟨hD1, hD6, hMS, hOS, hS3, hm, hi16, eM, eL, hfr, H, V, LS⟩ := F'
  obtain ⟨hL24, hEL, hM⟩ := hp_L24 H
  have hl16 := (cd_len hC hm).1
  have ck : (nI (16 * m + i)).toNatClampNeg = 16 * m + i := nI_clamp (by omega)
  have vk : vp_in (nI (16 * m + i)) 64 := vp_in_nI (by omega) (by omega)
  have cd : (nI (D - 1)).toNatClampNeg = D - 1 := nI_clamp (by omega)
  have vd : vp_in (nI (D - 1)) 6 := vp_in_nI (by omega) (by omega)
  have LP := rn_lpof hD1 (Or.inr (by rw [eo]; unfold rn_mild; decide)) NB LS
  obtain ⟨t, ht, ey⟩ : ∃ t, t ≤ M ∧ b_variable (6 * (D - 1) + a) = nI t := by
    rcases hv with ⟨ex, ey⟩ | ⟨q, t, hq, h1, hM', ex, ey, hn, hal⟩
    · exact ⟨0, by omega, ey⟩
    · exact ⟨t, hM', ey⟩
  by_cases hL : L = 24
  · subst hL
    have F1 : rn_F0 f_brief a_length a_ops a_thirds a_need D M E 24 (S + 1) O m i a_numbers a_ints a_counts a_fields a_ending a_stage a_fMethod a_fLine a_held a_lent b_value b_fields b_alive b_variable b_loan b_todo b_phase := ⟨hD1, hD6, by omega, by omega, by omega, hm, hi16, eM, eL, hfr, H, V, LS⟩
    refine Or.inr (Or.inl ⟨1, D, M, E, 24, S + 1, O, m, i, f_ups, f_downs, a_numbers, a_ints, a_counts, a_fields, a_ending, a_stage, a_fMethod, a_fLine, a_held, a_lent, a_outs, a_ends, b_value, b_fields, b_alive, b_variable, b_loan, b_todo, b_phase, Or.inl rfl, F1, fun post hp => ?_, fun post hp => ?_⟩)
    · refine And.intro vk (nm_r (e' := nI a) (by rw [ck]; exact ea) (And.intro vk (nm_r (e' := nI 0) (by rw [ck]; exact eo) (br_f (by decide) (br_f (by decide) (br_t rfl ⟨vk, ?_⟩))))))
      exact br_t rfl (br_f tl_m1le (st_xf hp))
    · refine sy_in (a := a) (o := 0) hD1 hD6 (by omega) ha eo eb (by decide) (by decide) ?_
      rw [ey]
      exact br_t rfl (br_t rfl (sy_129 (t := t) (by omega) hM hD6 ht (by decide) hp))
  · obtain ⟨o, ho, H1, hw, hXm⟩ := mk_j (f_known := f_known) (f_depth := nI D) (f_brief := f_brief) (f_outCount := nI O) (f_endCount := nI E) (f_ups := f_ups) (f_downs := f_downs) (f_steps := nI (S + 1)) (f_gift := 0) (f_ended := -1) (f_stopped := -1) (a_length := a_length) (a_lends := a_lends) (a_ops := a_ops) (a_firsts := a_firsts) (a_seconds := a_seconds) (a_thirds := a_thirds) (a_need := a_need) (a_loan := a_loan) (a_hands := a_hands) (a_keeps := a_keeps) (a_come := a_come) (a_numbers := a_numbers) (a_ints := a_ints) (a_counts := a_counts) (a_fields := a_fields) (a_ending := a_ending) (a_stage := a_stage) (a_fMethod := a_fMethod) (a_fLine := a_fLine) (a_held := a_held) (a_lent := a_lent) (a_outs := a_outs) (a_ends := a_ends) (v := a_thirds (16 * m + i)) (by omega) (by omega) H
    have V1 : vr_V D (M + 1) (upd a_numbers o (nI (M + 1))) (upd b_alive (M + 1) 1) a_held a_lent b_variable b_loan := ⟨fun w hw' => ⟨hw _ _ (V.1 w hw').1, (V.1 w hw').2⟩, V.2⟩
    obtain ⟨E', L', f_downs', a_numbers', a_counts', a_fields', a_ending', a_stage', a_ends', b_fields', b_alive', b_todo', b_phase', H2, hm2, V2, hX2, hY2⟩ := vg_let (f_known := f_known) (f_brief := f_brief) (f_outCount := nI O) (f_ups := f_ups) (f_steps := nI (S + 1)) (f_gift := 0) (f_ended := -1) (f_stopped := -1) (a_length := a_length) (a_lends := a_lends) (a_ops := a_ops) (a_firsts := a_firsts) (a_seconds := a_seconds) (a_thirds := a_thirds) (a_need := a_need) (a_loan := a_loan) (a_hands := a_hands) (a_keeps := a_keeps) (a_come := a_come) (a_fMethod := a_fMethod) (a_fLine := a_fLine) (a_held := a_held) (a_lent := a_lent) (a_outs := a_outs) (g_known := f_known) (g_counted := f_ups) (g_begun := nI (S + 1)) (g_outcome := -1) (g_isShort := f_brief) (g_ran := g_ran) (g_put := nI O) (b_ops := a_ops) (b_as := b_as) (b_bs := b_bs) (b_cs := a_thirds) (b_size := a_length) (b_lent := a_lends) (b_need := b_need) (b_plans := b_plans) (b_keep := b_keep) (b_method := a_fMethod) (b_pc := upd a_fLine (D - 1) (nI (i + 1))) (b_variable := b_variable) (b_loan := b_loan) (b_outs := a_outs) (f_made := nI (M + 1)) (f_downs := f_downs) (a_ends := a_ends) (x := nI o) (y := nI (M + 1)) (lo := 0) hD1 hD6 ha (Or.inr ⟨o, M + 1, ho, by omega, by omega, rfl, rfl, fun _ => tl_us⟩) V1 (hp_cg (fun n h1 h2 => by rw [if_pos rfl]) H1)
    have elo : vr_lo 0 (nI (M + 1)) = 0 := if_pos rfl
    rw [elo] at H2 V2
    rw [elo] at hY2
    have F1 : rn_F0 f_brief a_length a_ops a_thirds a_need D (M + 1) E' L' (S + 1) O m (i + 1) a_numbers' (upd a_ints o (a_thirds (16 * m + i))) a_counts' a_fields' a_ending' a_stage' a_fMethod (upd a_fLine (D - 1) (nI (i + 1))) (upd a_held (6 * (D - 1) + a) (nI o)) (upd a_lent (D - 1) (vr_le (a_lent (D - 1)) a 0)) (upd b_value (M + 1) (a_thirds (16 * m + i))) b_fields' b_alive' (upd b_variable (6 * (D - 1) + a) (nI (M + 1))) (upd b_loan (6 * (D - 1) + a) 0) b_todo' b_phase' :=
      st_F0 F hS (by omega) (by omega) (by omega) H2 V2 (rn_lpls (rn_lpu (by omega) (Or.inl rfl) LP))
    refine Or.inl ⟨D, M + 1, E', L', S + 1, O, m, i + 1, f_ups, f_downs', a_numbers', upd a_ints o (a_thirds (16 * m + i)), a_counts', a_fields', a_ending', a_stage', a_fMethod, upd a_fLine (D - 1) (nI (i + 1)), upd a_held (6 * (D - 1) + a) (nI o), upd a_lent (D - 1) (vr_le (a_lent (D - 1)) a 0), a_outs, a_ends', upd b_value (M + 1) (a_thirds (16 * m + i)), b_fields', b_alive', upd b_variable (6 * (D - 1) + a) (nI (M + 1)), upd b_loan (6 * (D - 1) + a) 0, b_todo', b_phase', F1, by omega, fun u hdr post hp => ?_, fun post hp => ?_⟩
    · refine And.intro vk (nm_r (e' := nI a) (by rw [ck]; exact ea) (And.intro vk (nm_r (e' := nI 0) (by rw [ck]; exact eo) (br_f (by decide) (br_f (by decide) (br_t rfl ⟨vk, ?_⟩))))))
      rw [ck]
      unfold wpX_fresh
      refine hXm _ ?_
      exact br_t (nI_pos' (n := o) (by omega)) (hX2 _ (st_xn hD1 hD6 (by omega) (by omega) eo (by decide) (by decide) tl_n1' hdr hp))
    · refine sy_in (a := a) (o := 0) hD1 hD6 (by omega) ha eo eb (by decide) (by decide) ?_
      rw [ey]
      refine sy_ok (t := t) (by omega) hM hD6 ht (by omega) (fun _ z => hL (tl_inj (b := 24) z (by omega) (by omega))) (fun z => by omega) (fun z => by omega) (fun z => by omega) (sy_166 (by decide) (sy_281 hD1 hD6 (by omega) eL ?_))
      exact And.intro vd (nm_r (e' := upd a_fLine (D - 1) (nI (i + 1))) (by rw [cd]) (br_f (by decide) (br_f (by decide) (br_f (by decide) (br_f (by decide) (br_f (by decide) (br_f (by decide) (br_f (by decide) (br_t rfl (mk_y (by omega) (hY2 _ hp)))))))))))
/-- COPY -/
theorem op_1 (F : rn_F0 f_brief a_length a_ops a_thirds a_need D M E L S O m i a_numbers a_ints a_counts a_fields a_ending a_stage a_fMethod a_fLine a_held a_lent b_value b_fields b_alive b_variable b_loan b_todo b_phase) (NB : rn_NB f_brief a_length a_need D m i b_variable) (hC : cd_C a_length a_ops a_firsts a_seconds a_thirds b_as b_bs) (hA : an_A a_length a_lends a_ops a_firsts a_seconds a_thirds a_need a_loan a_hands a_keeps a_come b_as b_bs b_need b_plans b_keep) (hi : i < rn_len a_length m) (hS : S < 300) {a : Nat} (ha : a < 6) (ea : a_firsts (16 * m + i) = nI a) (eb : b_as (16 * m + i) = nI a) {b : Nat} (hb : b < 6) (es : a_seconds (16 * m + i) = nI b) (et : b_bs (16 * m + i) = nI b) (eo : a_ops (16 * m + i) = nI 1) : st_O f_known f_brief g_ran a_length a_lends a_ops a_firsts a_seconds a_thirds a_need a_loan a_hands a_keeps a_come b_as b_bs b_need b_plans b_keep D S (fun post => wpX_step post (f_known, nI D, f_brief, nI O, nI E, f_ups, f_downs, nI (S + 1), nI M, nI L, 0, (-1), (-1), a_length, a_lends, a_ops, a_firsts, a_seconds, a_thirds, a_need, a_loan, a_hands, a_keeps, a_come, a_numbers, a_ints, a_counts, a_fields, a_ending, a_stage, a_fMethod, a_fLine, a_held, a_lent, a_outs, a_ends) (nI (16 * m + i)) (nI i)) (fun post => wpY_carryOut post (f_known, nI M, nI L, f_ups, f_downs, nI D, nI (S + 1), 0, (-1), f_brief, g_ran, nI O, nI E, a_ops, b_as, b_bs, a_thirds, a_length, a_lends, b_need, b_plans, b_keep, b_value, b_fields, b_alive, a_fMethod, a_fLine, b_variable, b_loan, a_outs, a_ends, b_todo, b_phase) (nI (6 * (D - 1))) (nI (16 * m + i))) := by
  have hv := st_var ha F NB
  have hvb := st_val hb F NB
  have F' := F
  obtain ⟨hD1, hD6, hMS, hOS, hS3, hm, hi16, eM, eL, hfr, H, V, LS⟩ := F'
  obtain ⟨hL24, hEL, hM⟩ := hp_L24 H
  have hl16 := (cd_len hC hm).1
  have ck : (nI (16 * m + i)).toNatClampNeg = 16 * m + i := nI_clamp (by omega)
  have vk : vp_in (nI (16 * m + i)) 64 := vp_in_nI (by omega) (by omega)
  have cd : (nI (D - 1)).toNatClampNeg = D - 1 := nI_clamp (by omega)
  have vd : vp_in (nI (D - 1)) 6 := vp_in_nI (by omega) (by omega)
  have LP := rn_lpof hD1 (Or.inr (by rw [eo]; unfold rn_mild; decide)) NB LS
  obtain ⟨t, ht, ey⟩ : ∃ t, t ≤ M ∧ b_variable (6 * (D - 1) + a) = nI t := by
    rcases hv with ⟨ex, ey⟩ | ⟨q, t, hq, h1, hM', ex, ey, hn, hal⟩
    · exact ⟨0, by omega, ey⟩
    · exact ⟨t, hM', ey⟩
  have hpl := (op_pl hA hm hi).1
  have hxy := (V.1 (6 * (D - 1) + b) (by omega)).1
  obtain ⟨f_ups2, a_counts2, a_held2, a_lent2, b_variable2, H1, V1, hvar, hX1, hY1⟩ := ps_j (f_known := f_known) (f_brief := f_brief) (f_outCount := nI O) (f_endCount := nI E) (f_ups := f_ups) (f_downs := f_downs) (f_steps := nI (S + 1)) (f_made := nI M) (f_alive := nI L) (f_gift := 0) (f_ended := -1) (f_stopped := -1) (a_length := a_length) (a_lends := a_lends) (a_ops := a_ops) (a_firsts := a_firsts) (a_seconds := a_seconds) (a_thirds := a_thirds) (a_need := a_need) (a_loan := a_loan) (a_hands := a_hands) (a_keeps := a_keeps) (a_come := a_come) (a_numbers := a_numbers) (a_ints := a_ints) (a_counts := a_counts) (a_fields := a_fields) (a_ending := a_ending) (a_stage := a_stage) (a_fMethod := a_fMethod) (a_fLine := a_fLine) (a_held := a_held) (a_lent := a_lent) (a_outs := a_outs) (a_ends := a_ends) (g_known := f_known) (g_made := nI M) (g_living := nI L) (g_less := f_downs) (g_depth := nI D) (g_begun := nI (S + 1)) (g_given := 0) (g_outcome := -1) (g_ran := g_ran) (g_put := nI O) (g_ended := nI E) (b_ops := a_ops) (b_as := b_as) (b_bs := b_bs) (b_cs := a_thirds) (b_size := a_length) (b_lent := a_lends) (b_need := b_need) (b_keep := b_keep) (b_method := a_fMethod) (b_pc := upd a_fLine (D - 1) (nI (i + 1))) (b_outs := a_outs) (b_ends := a_ends) (k := 16 * m + i) hD1 hD6 hb (by omega) hpl V H hvb
  obtain ⟨E', L', f_downs', a_numbers', a_counts', a_fields', a_ending', a_stage', a_ends', b_fields', b_alive', b_todo', b_phase', H2, hm2, V2, hX2, hY2⟩ := vg_let (f_known := f_known) (f_brief := f_brief) (f_outCount := nI O) (f_ups := f_ups2) (f_steps := nI (S + 1)) (f_gift := 0) (f_ended := -1) (f_stopped := -1) (a_length := a_length) (a_lends := a_lends) (a_ops := a_ops) (a_firsts := a_firsts) (a_seconds := a_seconds) (a_thirds := a_thirds) (a_need := a_need) (a_loan := a_loan) (a_hands := a_hands) (a_keeps := a_keeps) (a_come := a_come) (a_fMethod := a_fMethod) (a_fLine := a_fLine) (a_held := a_held2) (a_lent := a_lent2) (a_outs := a_outs) (g_known := f_known) (g_counted := f_ups2) (g_begun := nI (S + 1)) (g_outcome := -1) (g_isShort := f_brief) (g_ran := g_ran) (g_put := nI O) (b_ops := a_ops) (b_as := b_as) (b_bs := b_bs) (b_cs := a_thirds) (b_size := a_length) (b_lent := a_lends) (b_need := b_need) (b_plans := b_plans) (b_keep := b_keep) (b_method := a_fMethod) (b_pc := upd a_fLine (D - 1) (nI (i + 1))) (b_variable := b_variable2) (b_loan := b_loan) (b_outs := a_outs) (f_made := nI M) (f_downs := f_downs) (a_ends := a_ends) (x := a_held (6 * (D - 1) + b)) (y := b_variable (6 * (D - 1) + b)) (lo := 0) hD1 hD6 ha hxy V1 (hp_cg (fun n h1 h2 => by rw [if_pos rfl]) H1)
  have elo : vr_lo 0 (b_variable (6 * (D - 1) + b)) = 0 := if_pos rfl
  rw [elo] at H2 V2
  rw [elo] at hY2
  have LP2 : rn_LP f_brief D b_variable2 b_loan := by
    rcases hvar with e | e
    · rw [e]; exact LP
    · rw [e]; exact rn_lpu1 (by omega) LP
  have F1 : rn_F0 f_brief a_length a_ops a_thirds a_need D M E' L' (S + 1) O m (i + 1) a_numbers' a_ints a_counts' a_fields' a_ending' a_stage' a_fMethod (upd a_fLine (D - 1) (nI (i + 1))) (upd a_held2 (6 * (D - 1) + a) (a_held (6 * (D - 1) + b))) (upd a_lent2 (D - 1) (vr_le (a_lent2 (D - 1)) a 0)) b_value b_fields' b_alive' (upd b_variable2 (6 * (D - 1) + a) (b_variable (6 * (D - 1) + b))) (upd b_loan (6 * (D - 1) + a) 0) b_todo' b_phase' :=
    st_F0 F hS (by omega) (by omega) (by omega) H2 V2 (rn_lpls (rn_lpu (by omega) (Or.inl rfl) LP2))
  refine Or.inl ⟨D, M, E', L', S + 1, O, m, i + 1, f_ups2, f_downs', a_numbers', a_ints, a_counts', a_fields', a_ending', a_stage', a_fMethod, upd a_fLine (D - 1) (nI (i + 1)), upd a_held2 (6 * (D - 1) + a) (a_held (6 * (D - 1) + b)), upd a_lent2 (D - 1) (vr_le (a_lent2 (D - 1)) a 0), a_outs, a_ends', b_value, b_fields', b_alive', upd b_variable2 (6 * (D - 1) + a) (b_variable (6 * (D - 1) + b)), upd b_loan (6 * (D - 1) + a) 0, b_todo', b_phase', F1, by omega, fun u hdr post hp => ?_, fun post hp => ?_⟩
  · refine And.intro vk (nm_r (e' := nI a) (by rw [ck]; exact ea) (And.intro vk (nm_r (e' := nI 1) (by rw [ck]; exact eo) (br_f (by decide) (br_f (by decide) (br_f (by decide) (br_t rfl ⟨vk, ?_⟩)))))))
    rw [ck, es]
    exact hX1 _ (hX2 _ (st_xn hD1 hD6 (by omega) (by omega) eo (by decide) (by decide) tl_n1' hdr hp))
  · refine sy_in (a := a) (o := 1) hD1 hD6 (by omega) ha eo eb (by decide) (by decide) ?_
    rw [ey, et, nI_add]
    refine sy_ok (t := t) (by omega) hM hD6 ht (by omega) (fun z => by omega) (fun z => by omega) (fun z => by omega) (fun z => by omega) (sy_166 (by decide) (sy_281 hD1 hD6 (by omega) eL ?_))
    exact And.intro vd (nm_r (e' := upd a_fLine (D - 1) (nI (i + 1))) (by rw [cd]) (br_f (by decide) (br_f (by decide) (br_f (by decide) (br_f (by decide) (br_f (by decide) (br_f (by decide) (br_f (by decide) (br_f (by decide) (br_t rfl (hY1 _ (hY2 _ hp))))))))))))
/-- NONE -/
theorem op_2 (F : rn_F0 f_brief a_length a_ops a_thirds a_need D M E L S O m i a_numbers a_ints a_counts a_fields a_ending a_stage a_fMethod a_fLine a_held a_lent b_value b_fields b_alive b_variable b_loan b_todo b_phase) (NB : rn_NB f_brief a_length a_need D m i b_variable) (hC : cd_C a_length a_ops a_firsts a_seconds a_thirds b_as b_bs) (hA : an_A a_length a_lends a_ops a_firsts a_seconds a_thirds a_need a_loan a_hands a_keeps a_come b_as b_bs b_need b_plans b_keep) (hi : i < rn_len a_length m) (hS : S < 300) {a : Nat} (ha : a < 6) (ea : a_firsts (16 * m + i) = nI a) (eb : b_as (16 * m + i) = nI a) (eo : a_ops (16 * m + i) = nI 2) : st_O f_known f_brief g_ran a_length a_lends a_ops a_firsts a_seconds a_thirds a_need a_loan a_hands a_keeps a_come b_as b_bs b_need b_plans b_keep D S (fun post => wpX_step post (f_known, nI D, f_brief, nI O, nI E, f_ups, f_downs, nI (S + 1), nI M, nI L, 0, (-1), (-1), a_length, a_lends, a_ops, a_firsts, a_seconds, a_thirds, a_need, a_loan, a_hands, a_keeps, a_come, a_numbers, a_ints, a_counts, a_fields, a_ending, a_stage, a_fMethod, a_fLine, a_held, a_lent, a_outs, a_ends) (nI (16 * m + i)) (nI i)) (fun post => wpY_carryOut post (f_known, nI M, nI L, f_ups, f_downs, nI D, nI (S + 1), 0, (-1), f_brief, g_ran, nI O, nI E, a_ops, b_as, b_bs, a_thirds, a_length, a_lends, b_need, b_plans, b_keep, b_value, b_fields, b_alive, a_fMethod, a_fLine, b_variable, b_loan, a_outs, a_ends, b_todo, b_phase) (nI (6 * (D - 1))) (nI (16 * m + i))) := by
  have hv := st_var ha F NB
  have F' := F
  obtain ⟨hD1, hD6, hMS, hOS, hS3, hm, hi16, eM, eL, hfr, H, V, LS⟩ := F'
  obtain ⟨hL24, hEL, hM⟩ := hp_L24 H
  have hl16 := (cd_len hC hm).1
  have ck : (nI (16 * m + i)).toNatClampNeg = 16 * m + i := nI_clamp (by omega)
  have vk : vp_in (nI (16 * m + i)) 64 := vp_in_nI (by omega) (by omega)
  have cd : (nI (D - 1)).toNatClampNeg = D - 1 := nI_clamp (by omega)
  have vd : vp_in (nI (D - 1)) 6 := vp_in_nI (by omega) (by omega)
  have LP := rn_lpof hD1 (Or.inr (by rw [eo]; unfold rn_mild; decide)) NB LS
  obtain ⟨t, ht, ey⟩ : ∃ t, t ≤ M ∧ b_variable (6 * (D - 1) + a) = nI t := by
    rcases hv with ⟨ex, ey⟩ | ⟨q, t, hq, h1, hM', ex, ey, hn, hal⟩
    · exact ⟨0, by omega, ey⟩
    · exact ⟨t, hM', ey⟩
  obtain ⟨E', L', f_downs', a_numbers', a_counts', a_fields', a_ending', a_stage', a_ends', b_fields', b_alive', b_todo', b_phase', H2, hm2, V2, hX2, hY2⟩ := vg_let (f_known := f_known) (f_brief := f_brief) (f_outCount := nI O) (f_ups := f_ups) (f_steps := nI (S + 1)) (f_gift := 0) (f_ended := -1) (f_stopped := -1) (a_length := a_length) (a_lends := a_lends) (a_ops := a_ops) (a_firsts := a_firsts) (a_seconds := a_seconds) (a_thirds := a_thirds) (a_need := a_need) (a_loan := a_loan) (a_hands := a_hands) (a_keeps := a_keeps) (a_come := a_come) (a_fMethod := a_fMethod) (a_fLine := a_fLine) (a_held := a_held) (a_lent := a_lent) (a_outs := a_outs) (g_known := f_known) (g_counted := f_ups) (g_begun := nI (S + 1)) (g_outcome := -1) (g_isShort := f_brief) (g_ran := g_ran) (g_put := nI O) (b_ops := a_ops) (b_as := b_as) (b_bs := b_bs) (b_cs := a_thirds) (b_size := a_length) (b_lent := a_lends) (b_need := b_need) (b_plans := b_plans) (b_keep := b_keep) (b_method := a_fMethod) (b_pc := upd a_fLine (D - 1) (nI (i + 1))) (b_variable := b_variable) (b_loan := b_loan) (b_outs := a_outs) (f_made := nI M) (f_downs := f_downs) (a_ends := a_ends) (x := -1) (y := 0) (lo := 0) hD1 hD6 ha (Or.inl ⟨rfl, rfl⟩) V (hp_cg (fun n h1 h2 => by rw [if_pos rfl, hp_dl_0 h1 (by omega), Nat.add_zero]) H)
  have elo : vr_lo 0 0 = 0 := if_pos rfl
  rw [elo] at H2 V2
  rw [elo] at hY2
  have F1 : rn_F0 f_brief a_length a_ops a_thirds a_need D M E' L' (S + 1) O m (i + 1) a_numbers' a_ints a_counts' a_fields' a_ending' a_stage' a_fMethod (upd a_fLine (D - 1) (nI (i + 1))) (upd a_held (6 * (D - 1) + a) (-1)) (upd a_lent (D - 1) (vr_le (a_lent (D - 1)) a 0)) b_value b_fields' b_alive' (upd b_variable (6 * (D - 1) + a) 0) (upd b_loan (6 * (D - 1) + a) 0) b_todo' b_phase' :=
    st_F0 F hS (by omega) (by omega) (by omega) H2 V2 (rn_lpls (rn_lpu (by omega) (Or.inl rfl) LP))
  refine Or.inl ⟨D, M, E', L', S + 1, O, m, i + 1, f_ups, f_downs', a_numbers', a_ints, a_counts', a_fields', a_ending', a_stage', a_fMethod, upd a_fLine (D - 1) (nI (i + 1)), upd a_held (6 * (D - 1) + a) (-1), upd a_lent (D - 1) (vr_le (a_lent (D - 1)) a 0), a_outs, a_ends', b_value, b_fields', b_alive', upd b_variable (6 * (D - 1) + a) 0, upd b_loan (6 * (D - 1) + a) 0, b_todo', b_phase', F1, by omega, fun u hdr post hp => ?_, fun post hp => ?_⟩
  · exact And.intro vk (nm_r (e' := nI a) (by rw [ck]; exact ea) (And.intro vk (nm_r (e' := nI 2) (by rw [ck]; exact eo) (br_f (by decide) (br_f (by decide) (br_f (by decide) (br_f (by decide) (br_t rfl (hX2 _ (st_xn hD1 hD6 (by omega) (by omega) eo (by decide) (by decide) tl_n1' hdr hp))))))))))
  · refine sy_in (a := a) (o := 2) hD1 hD6 (by omega) ha eo eb (by decide) (by decide) ?_
    rw [ey]
    refine sy_ok (t := t) (by omega) hM hD6 ht (by omega) (fun z => by omega) (fun z => by omega) (fun z => by omega) (fun z => by omega) (sy_166 (by decide) (sy_281 hD1 hD6 (by omega) eL ?_))
    exact And.intro vd (nm_r (e' := upd a_fLine (D - 1) (nI (i + 1))) (by rw [cd]) (br_f (by decide) (br_f (by decide) (br_f (by decide) (br_f (by decide) (br_f (by decide) (br_f (by decide) (br_f (by decide) (br_f (by decide) (br_f (by decide) (br_t rfl (hY2 _ hp))))))))))))
end
end
section
section
variable {f_known f_depth f_brief f_outCount f_endCount f_ups f_downs f_steps f_made f_alive f_gift f_ended f_stopped : Int32} {a_length a_lends a_ops a_firsts a_seconds a_thirds a_need a_loan a_hands a_keeps a_come a_numbers a_ints a_counts a_fields a_ending a_stage a_fMethod a_fLine a_held a_lent a_outs a_ends : Nat → Int32}
variable {g_known g_made g_living g_counted g_less g_depth g_begun g_given g_outcome g_isShort g_ran g_put g_ended : Int32} {b_ops b_as b_bs b_cs b_size b_lent b_need b_plans b_keep b_value b_fields b_alive b_method b_pc b_variable b_loan b_outs b_ends b_todo b_phase : Nat → Int32}
variable {D M E L S O m i : Nat} {rc : Nat → Nat}
/-- a field's reference of an object that is there -/
theorem fd_al {t c : Nat} (hM : M ≤ 300) (h1 : 1 ≤ t) (hM' : t ≤ M) (hal : b_alive t ≠ 0) (hc : c < 3) (H : HR M E L 0 rc a_numbers a_ints a_counts a_fields a_ending a_stage b_value b_fields b_alive b_todo b_phase) : ∀ t', 1 ≤ t' → t' ≤ M → b_fields (3 * t + c) = nI t' → b_alive t' ≠ 0 := by
  intro t' h1' hM2 e
  by_cases z : c < 2
  · exact (hp_al h1' (by omega) H (by have := hp_FC_ge (n := t') h1 hM' z e; omega)).2
  · have hc2 : c = 2 := by omega
    subst hc2
    exact H.2.2.2.2.2.2.2.2.1 t t' h1 hM' hal h1' hM2 e
/-- loans after a get that lends -/
theorem gt_ls {a b t c : Nat} {y : Int32} {Q : Nat → Prop} (hD1 : 1 ≤ D) (hM : M ≤ 300) (ha : a < 6) (hb : b < 6) (hab : a ≠ b) (hc : c < 2) (h1 : 1 ≤ t) (ht : t ≤ M) (hbr : f_brief ≠ 0) {b_fields' a_numbers' b_alive' it co fi en st va td ph : Nat → Int32} {E' L' : Nat}
    (ebv : b_variable (6 * (D - 1) + b) = nI t) (ey : b_fields (3 * t + c) = y) (hm : hp_HM M a_numbers b_fields b_alive a_numbers' b_fields' b_alive') (LP : rn_LP f_brief D b_variable b_loan)
    (hLC : rn_LC a_length a_ops a_thirds a_need m a b Q) (hQ : i < rn_len a_length m → bt (a_need (16 * m + i)) a = true → Q i)
    (H : HR M E' L' 0 (hp_RC 0 (upd b_variable (6 * (D - 1) + a) y) (upd b_loan (6 * (D - 1) + a) (vr_lo 1 y)) D) a_numbers' it co fi en st va b_fields' b_alive' td ph) :
    rn_LS f_brief a_length a_ops a_thirds a_need D M m i (upd b_variable (6 * (D - 1) + a) y) (upd b_loan (6 * (D - 1) + a) (vr_lo 1 y)) b_fields' := by
  have hPR : ∀ w, w < 6 * D → w ≠ 6 * (D - 1) + a → rn_PR b_variable b_loan w → rn_PR (upd b_variable (6 * (D - 1) + a) y) (upd b_loan (6 * (D - 1) + a) (vr_lo 1 y)) w := by
    intro w hw hne ⟨w', k1, k2, k3⟩
    exact ⟨w', k1, by rw [tl_un (by omega)]; exact k2, by rw [tl_un (by omega), tl_un hne]; exact k3⟩
  intro w hw hl hv
  by_cases z : w = 6 * (D - 1) + a
  · refine ⟨hbr, Or.inr ⟨by omega, fun hN => ?_⟩⟩
    have hbw : 6 * (D - 1) + b ≠ 6 * (D - 1) + a := by omega
    have ebv' : (upd b_variable (6 * (D - 1) + a) y) (6 * (D - 1) + b) = nI t := by rw [tl_un hbw]; exact ebv
    have hp' : (upd b_loan (6 * (D - 1) + a) (vr_lo 1 y)) (6 * (D - 1) + b) = 0 ∨ rn_PR (upd b_variable (6 * (D - 1) + a) y) (upd b_loan (6 * (D - 1) + a) (vr_lo 1 y)) (6 * (D - 1) + b) := by
      by_cases q : b_loan (6 * (D - 1) + b) = 0
      · left; rw [tl_un hbw]; exact q
      · exact Or.inr (hPR _ (by omega) hbw (LP _ (by omega) q (by rw [ebv]; exact nI_ne0 h1 (by omega))).2)
    have hal := (rn_pral (by omega) (by omega) h1 ebv' hp' H).2
    have hwa : w - 6 * (D - 1) = a := by omega
    rw [hwa] at hN
    refine ⟨b, c, t, Q, hb, hc, h1, ht, by omega, ebv', ?_, hp', ?_, by rw [hwa]; exact hLC⟩
    · rw [z, tl_us, hp_HM_f hm h1 ht hal hc]
      exact ey
    · unfold rn_na at hN
      by_cases q : i < rn_len a_length m
      · rw [if_pos q] at hN
        exact hQ q hN
      · rw [if_neg q, b_0] at hN
        exact absurd hN (by decide)
  · rw [tl_un z] at hl hv
    obtain ⟨k1, k2⟩ := LP w hw hl hv
    exact ⟨k1, Or.inl (hPR w hw z k2)⟩
/-- GET -/
theorem op_3 (F : rn_F0 f_brief a_length a_ops a_thirds a_need D M E L S O m i a_numbers a_ints a_counts a_fields a_ending a_stage a_fMethod a_fLine a_held a_lent b_value b_fields b_alive b_variable b_loan b_todo b_phase) (NB : rn_NB f_brief a_length a_need D m i b_variable) (hC : cd_C a_length a_ops a_firsts a_seconds a_thirds b_as b_bs) (hA : an_A a_length a_lends a_ops a_firsts a_seconds a_thirds a_need a_loan a_hands a_keeps a_come b_as b_bs b_need b_plans b_keep) (hi : i < rn_len a_length m) (hS : S < 300) {a : Nat} (ha : a < 6) (ea : a_firsts (16 * m + i) = nI a) (eb : b_as (16 * m + i) = nI a) {b : Nat} (hb : b < 6) (es : a_seconds (16 * m + i) = nI b) (et : b_bs (16 * m + i) = nI b) {c : Nat} (hc : c < 3) (ec : a_thirds (16 * m + i) = nI c) (eo : a_ops (16 * m + i) = nI 3) : st_O f_known f_brief g_ran a_length a_lends a_ops a_firsts a_seconds a_thirds a_need a_loan a_hands a_keeps a_come b_as b_bs b_need b_plans b_keep D S (fun post => wpX_step post (f_known, nI D, f_brief, nI O, nI E, f_ups, f_downs, nI (S + 1), nI M, nI L, 0, (-1), (-1), a_length, a_lends, a_ops, a_firsts, a_seconds, a_thirds, a_need, a_loan, a_hands, a_keeps, a_come, a_numbers, a_ints, a_counts, a_fields, a_ending, a_stage, a_fMethod, a_fLine, a_held, a_lent, a_outs, a_ends) (nI (16 * m + i)) (nI i)) (fun post => wpY_carryOut post (f_known, nI M, nI L, f_ups, f_downs, nI D, nI (S + 1), 0, (-1), f_brief, g_ran, nI O, nI E, a_ops, b_as, b_bs, a_thirds, a_length, a_lends, b_need, b_plans, b_keep, b_value, b_fields, b_alive, a_fMethod, a_fLine, b_variable, b_loan, a_outs, a_ends, b_todo, b_phase) (nI (6 * (D - 1))) (nI (16 * m + i))) := by
  have hv := st_var ha F NB
  have hvb := st_var hb F NB
  have F' := F
  obtain ⟨hD1, hD6, hMS, hOS, hS3, hm, hi16, eM, eL, hfr, H, V, LS⟩ := F'
  obtain ⟨hL24, hEL, hM⟩ := hp_L24 H
  have hl16 := (cd_len hC hm).1
  have ck : (nI (16 * m + i)).toNatClampNeg = 16 * m + i := nI_clamp (by omega)
  have vk : vp_in (nI (16 * m + i)) 64 := vp_in_nI (by omega) (by omega)
  have cd : (nI (D - 1)).toNatClampNeg = D - 1 := nI_clamp (by omega)
  have vd : vp_in (nI (D - 1)) 6 := vp_in_nI (by omega) (by omega)
  have cwb : (nI (6 * (D - 1) + b)).toNatClampNeg = 6 * (D - 1) + b := nI_clamp (by omega)
  have vwb : vp_in (nI (6 * (D - 1) + b)) 36 := vp_in_nI (by omega) (by omega)
  have LP := rn_lpof hD1 (Or.inr (by rw [eo]; unfold rn_mild; decide)) NB LS
  obtain ⟨ta, hta, ey⟩ : ∃ t, t ≤ M ∧ b_variable (6 * (D - 1) + a) = nI t := by
    rcases hv with ⟨ex, ey⟩ | ⟨q, t, hq, h1, hM', ex, ey, hn, hal⟩
    · exact ⟨0, by omega, ey⟩
    · exact ⟨t, hM', ey⟩
  have hpl := (op_pl hA hm hi).2
  rcases hvb with ⟨exb, eyb⟩ | ⟨q, t, hq, h1, hM', exb, eyb, hn, hal⟩
  · have F1 : rn_F0 f_brief a_length a_ops a_thirds a_need D M E L (S + 1) O m i a_numbers a_ints a_counts a_fields a_ending a_stage a_fMethod a_fLine a_held a_lent b_value b_fields b_alive b_variable b_loan b_todo b_phase := ⟨hD1, hD6, by omega, by omega, by omega, hm, hi16, eM, eL, hfr, H, V, LS⟩
    refine Or.inr (Or.inl ⟨1, D, M, E, L, S + 1, O, m, i, f_ups, f_downs, a_numbers, a_ints, a_counts, a_fields, a_ending, a_stage, a_fMethod, a_fLine, a_held, a_lent, a_outs, a_ends, b_value, b_fields, b_alive, b_variable, b_loan, b_todo, b_phase, Or.inl rfl, F1, fun post hp => ?_, fun post hp => ?_⟩)
    · refine And.intro vk (nm_r (e' := nI a) (by rw [ck]; exact ea) (And.intro vk (nm_r (e' := nI 3) (by rw [ck]; exact eo) (br_f (by decide) (br_f (by decide) (br_f (by decide) (br_f (by decide) (br_f (by decide) (br_t rfl ⟨vk, ?_⟩)))))))))
      rw [ck, es]
      unfold wpX_get
      refine vg_var hD1 hD6 hb ?_
      rw [exb]
      exact br_f tl_m1le (st_xf hp)
    · refine sy_in (a := a) (o := 3) hD1 hD6 (by omega) ha eo eb (by decide) (by decide) ?_
      rw [ey, et, nI_add]
      refine br_f (by decide) (br_f (by decide) (br_f (by decide) (br_t rfl ⟨vwb, br_t ?_ (sy_129 (t := ta) (by omega) hM hD6 hta (by decide) hp)⟩)))
      rw [cwb]; exact eyb
  · have e3 : 3 * nI q + nI c = nI (3 * q + c) := tl_3 q c
    have c3 : (nI (3 * q + c)).toNatClampNeg = 3 * q + c := nI_clamp (by omega)
    have v3 : vp_in (nI (3 * q + c)) 72 := vp_in_nI (by omega) (by omega)
    have f3 : 3 * nI t + nI c = nI (3 * t + c) := tl_3 t c
    have d3 : (nI (3 * t + c)).toNatClampNeg = 3 * t + c := nI_clamp (by omega)
    have w3 : vp_in (nI (3 * t + c)) 903 := vp_in_nI (by omega) (by omega)
    have hxy := (H.2.2.2.2.2.2.2.1 q t hq h1 hM' hn hal).2 c hc
    have hfal := fd_al hM h1 hM' hal hc H
    have hty0 : ¬ b_variable (6 * (D - 1) + b) = 0 := by rw [eyb]; exact nI_ne0 h1 (by omega)
    by_cases hlo : f_brief ≠ 0 ∧ a_loan (16 * m + i) ≠ 0
    · obtain ⟨hbr, hln⟩ := hlo
      obtain ⟨_, _, _, _, _, _, _, hloan⟩ := hA m i hm hi
      obtain ⟨_, _, hc2, a', b', Q, ha', hb', ea', eb', hab, hLC, hQ⟩ := hloan hln
      have eaa : a = a' := tl_inj (ea.symm.trans ea') (by omega) (by omega)
      have ebb : b = b' := tl_inj (es.symm.trans eb') (by omega) (by omega)
      subst eaa ebb
      have hc2' : c < 2 := by
        refine Nat.lt_of_le_of_ne (by omega) (fun z => hc2 ?_)
        rw [ec, z]; rfl
      obtain ⟨E', L', f_downs', a_numbers', a_counts', a_fields', a_ending', a_stage', a_ends', b_fields', b_alive', b_todo', b_phase', H2, hm2, V2, hX2, hY2⟩ := vg_let (f_known := f_known) (f_brief := f_brief) (f_outCount := nI O) (f_ups := f_ups) (f_steps := nI (S + 1)) (f_gift := 0) (f_ended := -1) (f_stopped := -1) (a_length := a_length) (a_lends := a_lends) (a_ops := a_ops) (a_firsts := a_firsts) (a_seconds := a_seconds) (a_thirds := a_thirds) (a_need := a_need) (a_loan := a_loan) (a_hands := a_hands) (a_keeps := a_keeps) (a_come := a_come) (a_fMethod := a_fMethod) (a_fLine := a_fLine) (a_held := a_held) (a_lent := a_lent) (a_outs := a_outs) (g_known := f_known) (g_counted := f_ups) (g_begun := nI (S + 1)) (g_outcome := -1) (g_isShort := f_brief) (g_ran := g_ran) (g_put := nI O) (b_ops := a_ops) (b_as := b_as) (b_bs := b_bs) (b_cs := a_thirds) (b_size := a_length) (b_lent := a_lends) (b_need := b_need) (b_plans := b_plans) (b_keep := b_keep) (b_method := a_fMethod) (b_pc := upd a_fLine (D - 1) (nI (i + 1))) (b_variable := b_variable) (b_loan := b_loan) (b_outs := a_outs) (f_made := nI M) (f_downs := f_downs) (a_ends := a_ends) (x := a_fields (3 * q + c)) (y := b_fields (3 * t + c)) (lo := 1) hD1 hD6 ha hxy V (hp_cg (fun n h1 h2 => by rw [if_neg tl_n1', Nat.add_zero]) H)
      have LS1 : rn_LS f_brief a_length a_ops a_thirds a_need D M m (i + 1) (upd b_variable (6 * (D - 1) + a) (b_fields (3 * t + c))) (upd b_loan (6 * (D - 1) + a) (vr_lo 1 (b_fields (3 * t + c)))) b_fields' :=
        gt_ls hD1 hM ha hb hab hc2' h1 hM' hbr eyb rfl hm2 LP hLC (fun z1 z2 => hQ (i + 1) (Or.inl ⟨by rw [eo]; decide, by rw [eo]; decide, by rw [eo]; decide, rfl⟩) z1 z2) H2
      have F1 : rn_F0 f_brief a_length a_ops a_thirds a_need D M E' L' (S + 1) O m (i + 1) a_numbers' a_ints a_counts' a_fields' a_ending' a_stage' a_fMethod (upd a_fLine (D - 1) (nI (i + 1))) (upd a_held (6 * (D - 1) + a) (a_fields (3 * q + c))) (upd a_lent (D - 1) (vr_le (a_lent (D - 1)) a 1)) b_value b_fields' b_alive' (upd b_variable (6 * (D - 1) + a) (b_fields (3 * t + c))) (upd b_loan (6 * (D - 1) + a) (vr_lo 1 (b_fields (3 * t + c)))) b_todo' b_phase' :=
        st_F0 F hS (by omega) (by omega) (by omega) H2 V2 LS1
      refine Or.inl ⟨D, M, E', L', S + 1, O, m, i + 1, f_ups, f_downs', a_numbers', a_ints, a_counts', a_fields', a_ending', a_stage', a_fMethod, upd a_fLine (D - 1) (nI (i + 1)), upd a_held (6 * (D - 1) + a) (a_fields (3 * q + c)), upd a_lent (D - 1) (vr_le (a_lent (D - 1)) a 1), a_outs, a_ends', b_value, b_fields', b_alive', upd b_variable (6 * (D - 1) + a) (b_fields (3 * t + c)), upd b_loan (6 * (D - 1) + a) (vr_lo 1 (b_fields (3 * t + c))), b_todo', b_phase', F1, by omega, fun u hdr post hp => ?_, fun post hp => ?_⟩
      · refine And.intro vk (nm_r (e' := nI a) (by rw [ck]; exact ea) (And.intro vk (nm_r (e' := nI 3) (by rw [ck]; exact eo) (br_f (by decide) (br_f (by decide) (br_f (by decide) (br_f (by decide) (br_f (by decide) (br_t rfl ⟨vk, ?_⟩)))))))))
        rw [ck, es]
        unfold wpX_get
        refine vg_var hD1 hD6 hb ?_
        rw [exb, ck, ec, e3, c3]
        exact br_t (nI_pos' (by omega)) ⟨vk, v3, nm_e (br_f hbr ⟨vk, br_f hln (br_f tl_n1' (hX2 _ (st_xn hD1 hD6 (by omega) (by omega) eo (by decide) (by decide) tl_n1' hdr hp)))⟩)⟩
      · refine sy_in (a := a) (o := 3) hD1 hD6 (by omega) ha eo eb (by decide) (by decide) ?_
        rw [ey, et, nI_add]
        refine sy_ok (t := ta) (by omega) hM hD6 hta (by omega) (fun z => by omega) (fun z => by omega) (fun _ => ⟨6 * (D - 1) + b, by omega, rfl, hty0⟩) (fun z => by omega) (sy_166 (by decide) (sy_281 hD1 hD6 (by omega) eL ?_))
        refine And.intro vd (nm_r (e' := upd a_fLine (D - 1) (nI (i + 1))) (by rw [cd]) (br_f (by decide) (br_f (by decide) (br_f (by decide) (br_f (by decide) (br_f (by decide) (br_f (by decide) (br_f (by decide) (br_f (by decide) (br_f (by decide) (br_f (by decide) (br_t rfl (br_f hbr ⟨vk, ?_⟩)))))))))))))
        rw [ck]
        refine br_t (hpl.mpr hln) ?_
        unfold wY_change_103
        rw [cwb, eyb, ec, f3, d3]
        exact ⟨vwb, w3, nm_e (br_f tl_n1' (hY2 _ hp))⟩
    · have H1 := up_h hxy hfal H
      obtain ⟨E', L', f_downs', a_numbers', a_counts', a_fields', a_ending', a_stage', a_ends', b_fields', b_alive', b_todo', b_phase', H2, hm2, V2, hX2, hY2⟩ := vg_let (f_known := f_known) (f_brief := f_brief) (f_outCount := nI O) (f_ups := up_u f_ups (a_fields (3 * q + c))) (f_steps := nI (S + 1)) (f_gift := 0) (f_ended := -1) (f_stopped := -1) (a_length := a_length) (a_lends := a_lends) (a_ops := a_ops) (a_firsts := a_firsts) (a_seconds := a_seconds) (a_thirds := a_thirds) (a_need := a_need) (a_loan := a_loan) (a_hands := a_hands) (a_keeps := a_keeps) (a_come := a_come) (a_fMethod := a_fMethod) (a_fLine := a_fLine) (a_held := a_held) (a_lent := a_lent) (a_outs := a_outs) (g_known := f_known) (g_counted := up_u f_ups (a_fields (3 * q + c))) (g_begun := nI (S + 1)) (g_outcome := -1) (g_isShort := f_brief) (g_ran := g_ran) (g_put := nI O) (b_ops := a_ops) (b_as := b_as) (b_bs := b_bs) (b_cs := a_thirds) (b_size := a_length) (b_lent := a_lends) (b_need := b_need) (b_plans := b_plans) (b_keep := b_keep) (b_method := a_fMethod) (b_pc := upd a_fLine (D - 1) (nI (i + 1))) (b_variable := b_variable) (b_loan := b_loan) (b_outs := a_outs) (f_made := nI M) (f_downs := f_downs) (a_ends := a_ends) (x := a_fields (3 * q + c)) (y := b_fields (3 * t + c)) (lo := 0) hD1 hD6 ha hxy V (hp_cg (fun n h1 h2 => by rw [if_pos rfl]) H1)
      have elo : vr_lo 0 (b_fields (3 * t + c)) = 0 := if_pos rfl
      rw [elo] at H2 V2
      rw [elo] at hY2
      have F1 : rn_F0 f_brief a_length a_ops a_thirds a_need D M E' L' (S + 1) O m (i + 1) a_numbers' a_ints a_counts' a_fields' a_ending' a_stage' a_fMethod (upd a_fLine (D - 1) (nI (i + 1))) (upd a_held (6 * (D - 1) + a) (a_fields (3 * q + c))) (upd a_lent (D - 1) (vr_le (a_lent (D - 1)) a 0)) b_value b_fields' b_alive' (upd b_variable (6 * (D - 1) + a) (b_fields (3 * t + c))) (upd b_loan (6 * (D - 1) + a) 0) b_todo' b_phase' :=
        st_F0 F hS (by omega) (by omega) (by omega) H2 V2 (rn_lpls (rn_lpu (by omega) (Or.inl rfl) LP))
      refine Or.inl ⟨D, M, E', L', S + 1, O, m, i + 1, up_u f_ups (a_fields (3 * q + c)), f_downs', a_numbers', a_ints, a_counts', a_fields', a_ending', a_stage', a_fMethod, upd a_fLine (D - 1) (nI (i + 1)), upd a_held (6 * (D - 1) + a) (a_fields (3 * q + c)), upd a_lent (D - 1) (vr_le (a_lent (D - 1)) a 0), a_outs, a_ends', b_value, b_fields', b_alive', upd b_variable (6 * (D - 1) + a) (b_fields (3 * t + c)), upd b_loan (6 * (D - 1) + a) 0, b_todo', b_phase', F1, by omega, fun u hdr post hp => ?_, fun post hp => ?_⟩
      · refine And.intro vk (nm_r (e' := nI a) (by rw [ck]; exact ea) (And.intro vk (nm_r (e' := nI 3) (by rw [ck]; exact eo) (br_f (by decide) (br_f (by decide) (br_f (by decide) (br_f (by decide) (br_f (by decide) (br_t rfl ⟨vk, ?_⟩)))))))))
        rw [ck, es]
        unfold wpX_get
        refine vg_var hD1 hD6 hb ?_
        rw [exb, ck, ec, e3, c3]
        have K : wX_get_53 (fun r_280 u => match u with | (f_known, f_depth, f_brief, f_outCount, f_endCount, f_ups, f_downs, f_steps, f_made, f_alive, f_gift, f_ended, f_stopped, a_length, a_lends, a_ops, a_firsts, a_seconds, a_thirds, a_need, a_loan, a_hands, a_keeps, a_come, a_numbers, a_ints, a_counts, a_fields, a_ending, a_stage, a_fMethod, a_fLine, a_held, a_lent, a_outs, a_ends) => wX_step_264 post (nI (16 * m + i)) (nI i) (nI a) r_280 f_known f_depth f_brief f_outCount f_endCount f_ups f_downs f_steps f_made f_alive f_gift f_ended f_stopped a_length a_lends a_ops a_firsts a_seconds a_thirds a_need a_loan a_hands a_keeps a_come a_numbers a_ints a_counts a_fields a_ending a_stage a_fMethod a_fLine a_held a_lent a_outs a_ends) (nI a) (a_fields (3 * q + c)) 0 f_known (nI D) f_brief (nI O) (nI E) f_ups f_downs (nI (S + 1)) (nI M) (nI L) 0 (-1) (-1) a_length a_lends a_ops a_firsts a_seconds a_thirds a_need a_loan a_hands a_keeps a_come a_numbers a_ints a_counts a_fields a_ending a_stage a_fMethod a_fLine a_held a_lent a_outs a_ends :=
          br_t rfl (up_x hM hxy (hX2 _ (st_xn hD1 hD6 (by omega) (by omega) eo (by decide) (by decide) tl_n1' hdr hp)))
        refine br_t (nI_pos' (by omega)) ⟨vk, v3, nm_e ?_⟩
        by_cases z : f_brief = 0
        · exact br_t z K
        · by_cases z2 : a_loan (16 * m + i) = 0
          · exact br_f z ⟨vk, br_t z2 K⟩
          · exact absurd ⟨z, z2⟩ hlo
      · refine sy_in (a := a) (o := 3) hD1 hD6 (by omega) ha eo eb (by decide) (by decide) ?_
        rw [ey, et, nI_add]
        refine sy_ok (t := ta) (by omega) hM hD6 hta (by omega) (fun z => by omega) (fun z => by omega) (fun _ => ⟨6 * (D - 1) + b, by omega, rfl, hty0⟩) (fun z => by omega) (sy_166 (by decide) (sy_281 hD1 hD6 (by omega) eL ?_))
        refine And.intro vd (nm_r (e' := upd a_fLine (D - 1) (nI (i + 1))) (by rw [cd]) (br_f (by decide) (br_f (by decide) (br_f (by decide) (br_f (by decide) (br_f (by decide) (br_f (by decide) (br_f (by decide) (br_f (by decide) (br_f (by decide) (br_f (by decide) (br_t rfl ?_))))))))))))
        have K : wY_change_103 (fun u => match u with | (g_known, g_made, g_living, g_counted, g_less, g_depth, g_begun, g_given, g_outcome, g_isShort, g_ran, g_put, g_ended, b_ops, b_as, b_bs, b_cs, b_size, b_lent, b_need, b_plans, b_keep, b_value, b_fields, b_alive, b_method, b_pc, b_variable, b_loan, b_outs, b_ends, b_todo, b_phase) => post (g_known, g_made, g_living, g_counted, g_less, g_depth, g_begun, g_given, g_outcome, g_isShort, g_ran, g_put, g_ended, b_ops, b_as, b_bs, b_cs, b_size, b_lent, b_need, b_plans, b_keep, b_value, b_fields, b_alive, b_method, b_pc, b_variable, b_loan, b_outs, b_ends, b_todo, b_phase)) (nI (6 * (D - 1) + a)) (nI (6 * (D - 1) + b)) (nI c) 0 f_known (nI M) (nI L) f_ups f_downs (nI D) (nI (S + 1)) 0 (-1) f_brief g_ran (nI O) (nI E) a_ops b_as b_bs a_thirds a_length a_lends b_need b_plans b_keep b_value b_fields b_alive a_fMethod (upd a_fLine (D - 1) (nI (i + 1))) b_variable b_loan a_outs a_ends b_todo b_phase := by
          unfold wY_change_103
          rw [cwb, eyb, f3, d3]
          exact ⟨vwb, w3, nm_e (br_t rfl (up_y hM hxy (hY2 _ hp)))⟩
        rw [ec, ck]
        by_cases z : f_brief = 0
        · exact br_t z K
        · by_cases z2 : a_loan (16 * m + i) = 0
          · exact br_f z ⟨vk, br_f (fun w => (hpl.mp w) z2) K⟩
          · exact absurd ⟨z, z2⟩ hlo
end
end
section
section
variable {f_known f_depth f_brief f_outCount f_endCount f_ups f_downs f_steps f_made f_alive f_gift f_ended f_stopped : Int32} {a_length a_lends a_ops a_firsts a_seconds a_thirds a_need a_loan a_hands a_keeps a_come a_numbers a_ints a_counts a_fields a_ending a_stage a_fMethod a_fLine a_held a_lent a_outs a_ends : Nat → Int32}
variable {g_known g_made g_living g_counted g_less g_depth g_begun g_given g_outcome g_isShort g_ran g_put g_ended : Int32} {b_ops b_as b_bs b_cs b_size b_lent b_need b_plans b_keep b_value b_fields b_alive b_method b_pc b_variable b_loan b_outs b_ends b_todo b_phase : Nat → Int32}
variable {D M E L S O m i : Nat} {rc : Nat → Nat}
theorem pl_rem {q c : Nat} (hq : q < 24) (hc : c < 3) : nI (3 * q + c) - nI (3 * q + c) / 3 * 3 = nI c := by
  have := pk_rem (a := 3 * q + c) (d := 3) (by omega) (by omega) (by omega)
  rw [show (3 * q + c) % 3 = c by omega] at this
  exact this
theorem pl_w {post : SX → Prop} {q : Nat} {x y : Int32} {nu al : Nat → Int32} (hq : q < 24) (hxy : hp_RW M nu al x y) (h : post (f_known, f_depth, f_brief, f_outCount, f_endCount, f_ups, f_downs, f_steps, f_made, f_alive, f_gift, f_ended, f_stopped, a_length, a_lends, a_ops, a_firsts, a_seconds, a_thirds, a_need, a_loan, a_hands, a_keeps, a_come, a_numbers, a_ints, a_counts, upd a_fields (3 * q + 2) x, a_ending, a_stage, a_fMethod, a_fLine, a_held, a_lent, a_outs, a_ends)) : wpX_place post (f_known, f_depth, f_brief, f_outCount, f_endCount, f_ups, f_downs, f_steps, f_made, f_alive, f_gift, f_ended, f_stopped, a_length, a_lends, a_ops, a_firsts, a_seconds, a_thirds, a_need, a_loan, a_hands, a_keeps, a_come, a_numbers, a_ints, a_counts, a_fields, a_ending, a_stage, a_fMethod, a_fLine, a_held, a_lent, a_outs, a_ends) (nI (3 * q + 2)) x := by
  have c : (nI (3 * q + 2)).toNatClampNeg = 3 * q + 2 := nI_clamp (by omega)
  have v : vp_in (nI (3 * q + 2)) 72 := vp_in_nI (by omega) (by omega)
  exact And.intro v (nm_e (And.intro v (nm_r (e' := upd a_fields (3 * q + 2) x) (by rw [c, vg_nb hxy]) (And.intro (by decide) (br_t (pl_rem hq (by omega)) h)))))
theorem pl_s {post : SX → Prop} {q c : Nat} {x y : Int32} {nu al : Nat → Int32} (hq : q < 24) (hc : c < 2) (hxy : hp_RW M nu al x y) (h : wpX_down (fun u => match u with | (f_known, f_depth, f_brief, f_outCount, f_endCount, f_ups, f_downs, f_steps, f_made, f_alive, f_gift, f_ended, f_stopped, a_length, a_lends, a_ops, a_firsts, a_seconds, a_thirds, a_need, a_loan, a_hands, a_keeps, a_come, a_numbers, a_ints, a_counts, a_fields, a_ending, a_stage, a_fMethod, a_fLine, a_held, a_lent, a_outs, a_ends) => post (f_known, f_depth, f_brief, f_outCount, f_endCount, f_ups, f_downs, f_steps, f_made, f_alive, f_gift, f_ended, f_stopped, a_length, a_lends, a_ops, a_firsts, a_seconds, a_thirds, a_need, a_loan, a_hands, a_keeps, a_come, a_numbers, a_ints, a_counts, a_fields, a_ending, a_stage, a_fMethod, a_fLine, a_held, a_lent, a_outs, a_ends)) (f_known, f_depth, f_brief, f_outCount, f_endCount, f_ups, f_downs, f_steps, f_made, f_alive, f_gift, f_ended, f_stopped, a_length, a_lends, a_ops, a_firsts, a_seconds, a_thirds, a_need, a_loan, a_hands, a_keeps, a_come, a_numbers, a_ints, a_counts, upd a_fields (3 * q + c) x, a_ending, a_stage, a_fMethod, a_fLine, a_held, a_lent, a_outs, a_ends) (a_fields (3 * q + c))) : wpX_place post (f_known, f_depth, f_brief, f_outCount, f_endCount, f_ups, f_downs, f_steps, f_made, f_alive, f_gift, f_ended, f_stopped, a_length, a_lends, a_ops, a_firsts, a_seconds, a_thirds, a_need, a_loan, a_hands, a_keeps, a_come, a_numbers, a_ints, a_counts, a_fields, a_ending, a_stage, a_fMethod, a_fLine, a_held, a_lent, a_outs, a_ends) (nI (3 * q + c)) x := by
  have cc : (nI (3 * q + c)).toNatClampNeg = 3 * q + c := nI_clamp (by omega)
  have v : vp_in (nI (3 * q + c)) 72 := vp_in_nI (by omega) (by omega)
  refine And.intro v (nm_r (e' := a_fields (3 * q + c)) (by rw [cc]) (And.intro v (nm_r (e' := upd a_fields (3 * q + c) x) (by rw [cc, vg_nb hxy]) (And.intro (by decide) (br_f ?_ h)))))
  rw [pl_rem hq (by omega)]
  exact fun z => by
    have := tl_inj (b := 2) z (by omega) (by omega)
    omega
/-- PUT -/
theorem op_4 (F : rn_F0 f_brief a_length a_ops a_thirds a_need D M E L S O m i a_numbers a_ints a_counts a_fields a_ending a_stage a_fMethod a_fLine a_held a_lent b_value b_fields b_alive b_variable b_loan b_todo b_phase) (NB : rn_NB f_brief a_length a_need D m i b_variable) (hC : cd_C a_length a_ops a_firsts a_seconds a_thirds b_as b_bs) (hA : an_A a_length a_lends a_ops a_firsts a_seconds a_thirds a_need a_loan a_hands a_keeps a_come b_as b_bs b_need b_plans b_keep) (hi : i < rn_len a_length m) (hS : S < 300) {a : Nat} (ha : a < 6) (ea : a_firsts (16 * m + i) = nI a) (eb : b_as (16 * m + i) = nI a) {b : Nat} (hb : b < 6) (es : a_seconds (16 * m + i) = nI b) (et : b_bs (16 * m + i) = nI b) {c : Nat} (hc : c < 3) (ec : a_thirds (16 * m + i) = nI c) (eo : a_ops (16 * m + i) = nI 4) : st_O f_known f_brief g_ran a_length a_lends a_ops a_firsts a_seconds a_thirds a_need a_loan a_hands a_keeps a_come b_as b_bs b_need b_plans b_keep D S (fun post => wpX_step post (f_known, nI D, f_brief, nI O, nI E, f_ups, f_downs, nI (S + 1), nI M, nI L, 0, (-1), (-1), a_length, a_lends, a_ops, a_firsts, a_seconds, a_thirds, a_need, a_loan, a_hands, a_keeps, a_come, a_numbers, a_ints, a_counts, a_fields, a_ending, a_stage, a_fMethod, a_fLine, a_held, a_lent, a_outs, a_ends) (nI (16 * m + i)) (nI i)) (fun post => wpY_carryOut post (f_known, nI M, nI L, f_ups, f_downs, nI D, nI (S + 1), 0, (-1), f_brief, g_ran, nI O, nI E, a_ops, b_as, b_bs, a_thirds, a_length, a_lends, b_need, b_plans, b_keep, b_value, b_fields, b_alive, a_fMethod, a_fLine, b_variable, b_loan, a_outs, a_ends, b_todo, b_phase) (nI (6 * (D - 1))) (nI (16 * m + i))) := by
  have hv := st_var ha F NB
  have hvb := st_val hb F NB
  have F' := F
  obtain ⟨hD1, hD6, hMS, hOS, hS3, hm, hi16, eM, eL, hfr, H, V, LS⟩ := F'
  obtain ⟨hL24, hEL, hM⟩ := hp_L24 H
  have hl16 := (cd_len hC hm).1
  have ck : (nI (16 * m + i)).toNatClampNeg = 16 * m + i := nI_clamp (by omega)
  have vk : vp_in (nI (16 * m + i)) 64 := vp_in_nI (by omega) (by omega)
  have cd : (nI (D - 1)).toNatClampNeg = D - 1 := nI_clamp (by omega)
  have vd : vp_in (nI (D - 1)) 6 := vp_in_nI (by omega) (by omega)
  have cwa : (nI (6 * (D - 1) + a)).toNatClampNeg = 6 * (D - 1) + a := nI_clamp (by omega)
  have vwa : vp_in (nI (6 * (D - 1) + a)) 36 := vp_in_nI (by omega) (by omega)
  have cwb : (nI (6 * (D - 1) + b)).toNatClampNeg = 6 * (D - 1) + b := nI_clamp (by omega)
  have vwb : vp_in (nI (6 * (D - 1) + b)) 36 := vp_in_nI (by omega) (by omega)
  have LP := rn_lpof hD1 (Or.inr (by rw [eo]; unfold rn_mild; decide)) NB LS
  have hpl := (op_pl hA hm hi).1
  have hxy := (V.1 (6 * (D - 1) + b) (by omega)).1
  rcases hv with ⟨exa, eya⟩ | ⟨q, t, hq, h1, hM', exa, eya, hn, hal⟩
  · have F1 : rn_F0 f_brief a_length a_ops a_thirds a_need D M E L (S + 1) O m i a_numbers a_ints a_counts a_fields a_ending a_stage a_fMethod a_fLine a_held a_lent b_value b_fields b_alive b_variable b_loan b_todo b_phase := ⟨hD1, hD6, by omega, by omega, by omega, hm, hi16, eM, eL, hfr, H, V, LS⟩
    refine Or.inr (Or.inl ⟨1, D, M, E, L, S + 1, O, m, i, f_ups, f_downs, a_numbers, a_ints, a_counts, a_fields, a_ending, a_stage, a_fMethod, a_fLine, a_held, a_lent, a_outs, a_ends, b_value, b_fields, b_alive, b_variable, b_loan, b_todo, b_phase, Or.inl rfl, F1, fun post hp => ?_, fun post hp => ?_⟩)
    · refine And.intro vk (nm_r (e' := nI a) (by rw [ck]; exact ea) (And.intro vk (nm_r (e' := nI 4) (by rw [ck]; exact eo) (br_f (by decide) (br_f (by decide) (br_f (by decide) (br_f (by decide) (br_f (by decide) (br_f (by decide) (br_t rfl ⟨vk, ?_⟩))))))))))
      rw [ck, es]
      unfold wpX_put
      refine vg_var hD1 hD6 ha ?_
      rw [exa]
      exact br_f tl_m1le (st_xf hp)
    · refine sy_in (a := a) (o := 4) hD1 hD6 (by omega) ha eo eb (by decide) (by decide) ?_
      rw [eya]
      exact br_f (by decide) (br_t rfl (br_t rfl (sy_129 (t := 0) (by omega) hM hD6 (by omega) (by decide) hp)))
  · have e3 : 3 * nI q + nI c = nI (3 * q + c) := tl_3 q c
    have f3 : 3 * nI t + nI c = nI (3 * t + c) := tl_3 t c
    have d3 : (nI (3 * t + c)).toNatClampNeg = 3 * t + c := nI_clamp (by omega)
    have w3 : vp_in (nI (3 * t + c)) 903 := vp_in_nI (by omega) (by omega)
    have hold := (H.2.2.2.2.2.2.2.1 q t hq h1 hM' hn hal).2 c hc
    by_cases hc2 : c = 2
    · subst hc2
      have H1 := hp_putw hq h1 hM' hn hxy hvb H
      have F1 : rn_F0 f_brief a_length a_ops a_thirds a_need D M E L (S + 1) O m (i + 1) a_numbers a_ints a_counts (upd a_fields (3 * q + 2) (a_held (6 * (D - 1) + b))) a_ending a_stage a_fMethod (upd a_fLine (D - 1) (nI (i + 1))) a_held a_lent b_value (upd b_fields (3 * t + 2) (b_variable (6 * (D - 1) + b))) b_alive b_variable b_loan b_todo b_phase :=
        st_F0 F hS (by omega) (by omega) (by omega) H1 V (rn_lpls LP)
      refine Or.inl ⟨D, M, E, L, S + 1, O, m, i + 1, f_ups, f_downs, a_numbers, a_ints, a_counts, upd a_fields (3 * q + 2) (a_held (6 * (D - 1) + b)), a_ending, a_stage, a_fMethod, upd a_fLine (D - 1) (nI (i + 1)), a_held, a_lent, a_outs, a_ends, b_value, upd b_fields (3 * t + 2) (b_variable (6 * (D - 1) + b)), b_alive, b_variable, b_loan, b_todo, b_phase, F1, by omega, fun u hdr post hp => ?_, fun post hp => ?_⟩
      · refine And.intro vk (nm_r (e' := nI a) (by rw [ck]; exact ea) (And.intro vk (nm_r (e' := nI 4) (by rw [ck]; exact eo) (br_f (by decide) (br_f (by decide) (br_f (by decide) (br_f (by decide) (br_f (by decide) (br_f (by decide) (br_t rfl ⟨vk, ?_⟩))))))))))
        rw [ck, es]
        unfold wpX_put
        refine vg_var hD1 hD6 ha ?_
        rw [exa, ck]
        refine br_t (nI_pos' (by omega)) ⟨vk, nm_r ec (vg_var hD1 hD6 hb (br_t rfl ?_))⟩
        unfold wX_put_43
        rw [e3]
        exact pl_w hq hxy (st_xn hD1 hD6 (by omega) (by omega) eo (by decide) (by decide) tl_n1' hdr hp)
      · refine sy_in (a := a) (o := 4) hD1 hD6 (by omega) ha eo eb (by decide) (by decide) ?_
        rw [eya, et, nI_add]
        refine sy_ok (t := t) (by omega) hM hD6 hM' (by omega) (fun z => by omega) (fun _ => by omega) (fun z => by omega) (fun z => by omega) (sy_166 (by decide) (sy_281 hD1 hD6 (by omega) eL ?_))
        refine And.intro vd (nm_r (e' := upd a_fLine (D - 1) (nI (i + 1))) (by rw [cd]) (br_f (by decide) (br_f (by decide) (br_f (by decide) (br_f (by decide) (br_f (by decide) (br_f (by decide) (br_t (by decide) ⟨vwa, ?_⟩))))))))
        rw [cwa, eya, ec, f3]
        refine nm_e ⟨w3, nm_e (br_t rfl ⟨vwb, ?_⟩)⟩
        rw [cwb]
        exact And.intro w3 (nm_r (e' := upd b_fields (3 * t + 2) (b_variable (6 * (D - 1) + b))) (by rw [d3]) (br_t (by decide) hp))
    · have hc' : c < 2 := by omega
      obtain ⟨f_ups2, a_counts2, a_held2, a_lent2, b_variable2, H1, V1, hvar, hX1, hY1⟩ := ps_j (f_known := f_known) (f_brief := f_brief) (f_outCount := nI O) (f_endCount := nI E) (f_ups := f_ups) (f_downs := f_downs) (f_steps := nI (S + 1)) (f_made := nI M) (f_alive := nI L) (f_gift := 0) (f_ended := -1) (f_stopped := -1) (a_length := a_length) (a_lends := a_lends) (a_ops := a_ops) (a_firsts := a_firsts) (a_seconds := a_seconds) (a_thirds := a_thirds) (a_need := a_need) (a_loan := a_loan) (a_hands := a_hands) (a_keeps := a_keeps) (a_come := a_come) (a_numbers := a_numbers) (a_ints := a_ints) (a_counts := a_counts) (a_fields := a_fields) (a_ending := a_ending) (a_stage := a_stage) (a_fMethod := a_fMethod) (a_fLine := a_fLine) (a_held := a_held) (a_lent := a_lent) (a_outs := a_outs) (a_ends := a_ends) (g_known := f_known) (g_made := nI M) (g_living := nI L) (g_less := f_downs) (g_depth := nI D) (g_begun := nI (S + 1)) (g_given := 0) (g_outcome := -1) (g_ran := g_ran) (g_put := nI O) (g_ended := nI E) (b_ops := a_ops) (b_as := b_as) (b_bs := b_bs) (b_cs := a_thirds) (b_size := a_length) (b_lent := a_lends) (b_need := b_need) (b_keep := b_keep) (b_method := a_fMethod) (b_pc := upd a_fLine (D - 1) (nI (i + 1))) (b_outs := a_outs) (b_ends := a_ends) (k := 16 * m + i) hD1 hD6 hb (by omega) hpl V H hvb
      have H2 := hp_put hq h1 hM' hn hal hc' hxy H1
      obtain ⟨E', L', f_downs', a_numbers', a_counts', a_fields', a_ending', a_stage', a_ends', b_fields', b_alive', b_todo', b_phase', H3, hm3, hX3, hY3⟩ := dn_any (f_known := f_known) (f_brief := f_brief) (f_outCount := nI O) (f_ups := f_ups2) (f_steps := nI (S + 1)) (f_gift := 0) (f_ended := -1) (f_stopped := -1) (a_length := a_length) (a_lends := a_lends) (a_ops := a_ops) (a_firsts := a_firsts) (a_seconds := a_seconds) (a_thirds := a_thirds) (a_need := a_need) (a_loan := a_loan) (a_hands := a_hands) (a_keeps := a_keeps) (a_come := a_come) (a_fMethod := a_fMethod) (a_fLine := a_fLine) (a_held := a_held2) (a_lent := a_lent2) (a_outs := a_outs) (g_known := f_known) (g_counted := f_ups2) (g_begun := nI (S + 1)) (g_outcome := -1) (g_isShort := f_brief) (g_ran := g_ran) (g_put := nI O) (b_ops := a_ops) (b_as := b_as) (b_bs := b_bs) (b_cs := a_thirds) (b_size := a_length) (b_lent := a_lends) (b_need := b_need) (b_plans := b_plans) (b_keep := b_keep) (b_method := a_fMethod) (b_pc := upd a_fLine (D - 1) (nI (i + 1))) (b_variable := b_variable2) (b_loan := b_loan) (b_outs := a_outs) (f_depth := nI D) (f_made := nI M) (f_downs := f_downs) (a_ends := a_ends) hD6 hold H2
      have LP2 : rn_LP f_brief D b_variable2 b_loan := by
        rcases hvar with e | e
        · rw [e]; exact LP
        · rw [e]; exact rn_lpu1 (by omega) LP
      have F1 : rn_F0 f_brief a_length a_ops a_thirds a_need D M E' L' (S + 1) O m (i + 1) a_numbers' a_ints a_counts' a_fields' a_ending' a_stage' a_fMethod (upd a_fLine (D - 1) (nI (i + 1))) a_held2 a_lent2 b_value b_fields' b_alive' b_variable2 b_loan b_todo' b_phase' :=
        st_F0 F hS (by omega) (by omega) (by omega) H3 (vr_m hm3 V1) (rn_lpls LP2)
      refine Or.inl ⟨D, M, E', L', S + 1, O, m, i + 1, f_ups2, f_downs', a_numbers', a_ints, a_counts', a_fields', a_ending', a_stage', a_fMethod, upd a_fLine (D - 1) (nI (i + 1)), a_held2, a_lent2, a_outs, a_ends', b_value, b_fields', b_alive', b_variable2, b_loan, b_todo', b_phase', F1, by omega, fun u hdr post hp => ?_, fun post hp => ?_⟩
      · refine And.intro vk (nm_r (e' := nI a) (by rw [ck]; exact ea) (And.intro vk (nm_r (e' := nI 4) (by rw [ck]; exact eo) (br_f (by decide) (br_f (by decide) (br_f (by decide) (br_f (by decide) (br_f (by decide) (br_f (by decide) (br_t rfl ⟨vk, ?_⟩))))))))))
        rw [ck, es]
        unfold wpX_put
        refine vg_var hD1 hD6 ha ?_
        rw [exa, ck]
        refine br_t (nI_pos' (by omega)) ⟨vk, nm_r ec (vg_var hD1 hD6 hb (br_f (fun z => hc2 (tl_inj (b := 2) z (by omega) (by omega))) ?_))⟩
        refine hX1 _ ?_
        unfold wX_put_43
        dsimp only
        rw [e3]
        exact pl_s hq hc' hxy (hX3 _ (st_xn hD1 hD6 (by omega) (by omega) eo (by decide) (by decide) tl_n1' hdr hp))
      · refine sy_in (a := a) (o := 4) hD1 hD6 (by omega) ha eo eb (by decide) (by decide) ?_
        rw [eya, et, nI_add]
        refine sy_ok (t := t) (by omega) hM hD6 hM' (by omega) (fun z => by omega) (fun _ => by omega) (fun z => by omega) (fun z => by omega) (sy_166 (by decide) (sy_281 hD1 hD6 (by omega) eL ?_))
        refine And.intro vd (nm_r (e' := upd a_fLine (D - 1) (nI (i + 1))) (by rw [cd]) (br_f (by decide) (br_f (by decide) (br_f (by decide) (br_f (by decide) (br_f (by decide) (br_f (by decide) (br_t (by decide) ⟨vwa, ?_⟩))))))))
        rw [cwa, eya, ec, f3]
        refine nm_e ⟨w3, nm_r (e' := b_fields (3 * t + c)) (by rw [d3]) (br_f (fun z => hc2 (tl_inj (b := 2) z (by omega) (by omega))) ?_)⟩
        refine hY1 _ ?_
        exact And.intro w3 (nm_r (e' := upd b_fields (3 * t + c) (b_variable (6 * (D - 1) + b))) (by rw [d3]) (br_f (nI_ge (b := 2) hc' (by omega)) (hY3 _ hp)))
/-! OWN: a copy of an object -/
theorem ow_h {q t o n f : Nat} (hq : q < 24) (ho : o < 24) (h1 : 1 ≤ t) (hM' : t ≤ M) (hn1 : 1 ≤ n) (hnM : n ≤ M) (eq : a_numbers q = nI t) (eo : a_numbers o = nI n) (hal : b_alive t ≠ 0) (hal2 : b_alive n ≠ 0) (hf : f < 2) (hz : b_fields (3 * n + f) = 0) (H : HR M E L 0 rc a_numbers a_ints a_counts a_fields a_ending a_stage b_value b_fields b_alive b_todo b_phase) :
    hp_RW M a_numbers b_alive (a_fields (3 * q + f)) (b_fields (3 * t + f)) ∧ HR M E L 0 rc a_numbers a_ints (up_c a_counts (a_fields (3 * q + f))) (upd a_fields (3 * o + f) (a_fields (3 * q + f))) a_ending a_stage b_value (upd b_fields (3 * n + f) (b_fields (3 * t + f))) b_alive b_todo b_phase := by
  obtain ⟨hL24, hEL, hM⟩ := hp_L24 H
  have hxy := (H.2.2.2.2.2.2.2.1 q t hq h1 hM' eq hal).2 f (by omega)
  have hfal := fd_al hM h1 hM' hal (show f < 3 by omega) H
  have H1 := hp_put ho hn1 hnM eo hal2 hf hxy (up_h hxy hfal H)
  refine ⟨hxy, hp_cg (fun k a b => ?_) H1⟩
  rw [hz, hp_dl_0 a (by omega), Nat.add_zero]
theorem ow_xs {post : Int32 → SX → Prop} {a q o f n : Nat} {y : Int32} {nu al : Nat → Int32} (hM : M ≤ 300) (hq : q < 24) (ho : o < 24) (hf : f < 2) (hxy : hp_RW M nu al (a_fields (3 * q + f)) y)
    (h : wX_own_26 post (nI a) (nI q) (nI o) n (nI (f + 1)) f_known f_depth f_brief f_outCount f_endCount (up_u f_ups (a_fields (3 * q + f))) f_downs f_steps f_made f_alive f_gift f_ended f_stopped a_length a_lends a_ops a_firsts a_seconds a_thirds a_need a_loan a_hands a_keeps a_come a_numbers a_ints (up_c a_counts (a_fields (3 * q + f))) (upd a_fields (3 * o + f) (a_fields (3 * q + f))) a_ending a_stage a_fMethod a_fLine a_held a_lent a_outs a_ends) : wX_own_26 post (nI a) (nI q) (nI o) (n + 1) (nI f) f_known f_depth f_brief f_outCount f_endCount f_ups f_downs f_steps f_made f_alive f_gift f_ended f_stopped a_length a_lends a_ops a_firsts a_seconds a_thirds a_need a_loan a_hands a_keeps a_come a_numbers a_ints a_counts a_fields a_ending a_stage a_fMethod a_fLine a_held a_lent a_outs a_ends := by
  have e3 : 3 * nI q + nI f = nI (3 * q + f) := tl_3 q f
  have c3 : (nI (3 * q + f)).toNatClampNeg = 3 * q + f := nI_clamp (by omega)
  have v3 : vp_in (nI (3 * q + f)) 72 := vp_in_nI (by omega) (by omega)
  have f3 : 3 * nI o + nI f = nI (3 * o + f) := tl_3 o f
  have d3 : (nI (3 * o + f)).toNatClampNeg = 3 * o + f := nI_clamp (by omega)
  have w3 : vp_in (nI (3 * o + f)) 72 := vp_in_nI (by omega) (by omega)
  have hnb : vp_nar .byte (a_fields (3 * q + f)) = a_fields (3 * q + f) := by
    rcases hxy with ⟨e, _⟩ | ⟨q', t, hq', _, _, e, _⟩
    · rw [e]; exact tl_nbm1
    · rw [e]; exact tl_nb1 (by omega)
  rw [wX_own_26]
  refine br_f (nI_ge (b := 3) (by omega) (by omega)) ?_
  rw [e3, f3, c3, d3, hnb]
  refine ⟨v3, w3, nm_e (br_f (fun z => by have := tl_inj (b := 2) z (by omega) (by omega); omega) ⟨w3, ?_⟩)⟩
  rw [tl_us]
  exact up_x hM hxy (nm_r (nI_1 f) h)
theorem ow_x2 {post : Int32 → SX → Prop} {a q o n : Nat} {y : Int32} {nu al : Nat → Int32} (hq : q < 24) (ho : o < 24) (hxy : hp_RW M nu al (a_fields (3 * q + 2)) y)
    (h : wX_own_26 post (nI a) (nI q) (nI o) n (nI 3) f_known f_depth f_brief f_outCount f_endCount f_ups f_downs f_steps f_made f_alive f_gift f_ended f_stopped a_length a_lends a_ops a_firsts a_seconds a_thirds a_need a_loan a_hands a_keeps a_come a_numbers a_ints a_counts (upd a_fields (3 * o + 2) (a_fields (3 * q + 2))) a_ending a_stage a_fMethod a_fLine a_held a_lent a_outs a_ends) : wX_own_26 post (nI a) (nI q) (nI o) (n + 1) (nI 2) f_known f_depth f_brief f_outCount f_endCount f_ups f_downs f_steps f_made f_alive f_gift f_ended f_stopped a_length a_lends a_ops a_firsts a_seconds a_thirds a_need a_loan a_hands a_keeps a_come a_numbers a_ints a_counts a_fields a_ending a_stage a_fMethod a_fLine a_held a_lent a_outs a_ends := by
  have e3 : 3 * nI q + nI 2 = nI (3 * q + 2) := tl_3 q 2
  have c3 : (nI (3 * q + 2)).toNatClampNeg = 3 * q + 2 := nI_clamp (by omega)
  have v3 : vp_in (nI (3 * q + 2)) 72 := vp_in_nI (by omega) (by omega)
  have f3 : 3 * nI o + nI 2 = nI (3 * o + 2) := tl_3 o 2
  have d3 : (nI (3 * o + 2)).toNatClampNeg = 3 * o + 2 := nI_clamp (by omega)
  have w3 : vp_in (nI (3 * o + 2)) 72 := vp_in_nI (by omega) (by omega)
  have hnb : vp_nar .byte (a_fields (3 * q + 2)) = a_fields (3 * q + 2) := by
    rcases hxy with ⟨e, _⟩ | ⟨q', t, hq', _, _, e, _⟩
    · rw [e]; exact tl_nbm1
    · rw [e]; exact tl_nb1 (by omega)
  rw [wX_own_26]
  refine br_f (nI_ge (b := 3) (by omega) (by omega)) ?_
  rw [e3, f3, c3, d3, hnb]
  exact ⟨v3, w3, nm_e (br_t rfl (nm_r (nI_1 2) h))⟩
theorem ow_ys {post : SY → Prop} {w t k f n : Nat} {x : Int32} {nu al : Nat → Int32} (hM : M ≤ 300) (ht : t ≤ 300) (hk : k ≤ 300) (hf : f < 2) (hxy : hp_RW M nu al x (b_fields (3 * t + f)))
    (h : wY_own_14 post (nI w) (nI t) (nI k) n (nI (f + 1)) g_known g_made g_living (up_u g_counted x) g_less g_depth g_begun g_given g_outcome g_isShort g_ran g_put g_ended b_ops b_as b_bs b_cs b_size b_lent b_need b_plans b_keep b_value (upd b_fields (3 * k + f) (b_fields (3 * t + f))) b_alive b_method b_pc b_variable b_loan b_outs b_ends b_todo b_phase) : wY_own_14 post (nI w) (nI t) (nI k) (n + 1) (nI f) g_known g_made g_living g_counted g_less g_depth g_begun g_given g_outcome g_isShort g_ran g_put g_ended b_ops b_as b_bs b_cs b_size b_lent b_need b_plans b_keep b_value b_fields b_alive b_method b_pc b_variable b_loan b_outs b_ends b_todo b_phase := by
  have e3 : 3 * nI t + nI f = nI (3 * t + f) := tl_3 t f
  have c3 : (nI (3 * t + f)).toNatClampNeg = 3 * t + f := nI_clamp (by omega)
  have v3 : vp_in (nI (3 * t + f)) 903 := vp_in_nI (by omega) (by omega)
  have f3 : 3 * nI k + nI f = nI (3 * k + f) := tl_3 k f
  have d3 : (nI (3 * k + f)).toNatClampNeg = 3 * k + f := nI_clamp (by omega)
  have w3 : vp_in (nI (3 * k + f)) 903 := vp_in_nI (by omega) (by omega)
  rw [wY_own_14]
  refine br_f (nI_ge (b := 3) (by omega) (by omega)) (br_f (fun z => by have := tl_inj (b := 2) z (by omega) (by omega); omega) ?_)
  rw [e3, f3, c3, d3]
  exact ⟨v3, up_y hM hxy ⟨w3, nm_e (nm_r (nI_1 f) h)⟩⟩
theorem ow_y2 {post : SY → Prop} {w t k n : Nat} (ht : t ≤ 300) (hk : k ≤ 300)
    (h : wY_own_14 post (nI w) (nI t) (nI k) n (nI 3) g_known g_made g_living g_counted g_less g_depth g_begun g_given g_outcome g_isShort g_ran g_put g_ended b_ops b_as b_bs b_cs b_size b_lent b_need b_plans b_keep b_value (upd b_fields (3 * k + 2) (b_fields (3 * t + 2))) b_alive b_method b_pc b_variable b_loan b_outs b_ends b_todo b_phase) : wY_own_14 post (nI w) (nI t) (nI k) (n + 1) (nI 2) g_known g_made g_living g_counted g_less g_depth g_begun g_given g_outcome g_isShort g_ran g_put g_ended b_ops b_as b_bs b_cs b_size b_lent b_need b_plans b_keep b_value b_fields b_alive b_method b_pc b_variable b_loan b_outs b_ends b_todo b_phase := by
  have e3 : 3 * nI t + 2 = nI (3 * t + 2) := tl_3 t 2
  have c3 : (nI (3 * t + 2)).toNatClampNeg = 3 * t + 2 := nI_clamp (by omega)
  have v3 : vp_in (nI (3 * t + 2)) 903 := vp_in_nI (by omega) (by omega)
  have f3 : 3 * nI k + nI 2 = nI (3 * k + 2) := tl_3 k 2
  have d3 : (nI (3 * k + 2)).toNatClampNeg = 3 * k + 2 := nI_clamp (by omega)
  have w3 : vp_in (nI (3 * k + 2)) 903 := vp_in_nI (by omega) (by omega)
  rw [wY_own_14]
  refine br_f (nI_ge (b := 3) (by omega) (by omega)) (br_t rfl ?_)
  rw [e3, f3, c3, d3]
  exact ⟨v3, w3, nm_e (nm_r (nI_1 2) h)⟩
end
end
section
section
variable {f_known f_depth f_brief f_outCount f_endCount f_ups f_downs f_steps f_made f_alive f_gift f_ended f_stopped : Int32} {a_length a_lends a_ops a_firsts a_seconds a_thirds a_need a_loan a_hands a_keeps a_come a_numbers a_ints a_counts a_fields a_ending a_stage a_fMethod a_fLine a_held a_lent a_outs a_ends : Nat → Int32}
variable {g_known g_made g_living g_counted g_less g_depth g_begun g_given g_outcome g_isShort g_ran g_put g_ended : Int32} {b_ops b_as b_bs b_cs b_size b_lent b_need b_plans b_keep b_value b_fields b_alive b_method b_pc b_variable b_loan b_outs b_ends b_todo b_phase : Nat → Int32}
variable {D M E L S O m i : Nat} {rc : Nat → Nat}
/-- OWN -/
theorem op_8 (F : rn_F0 f_brief a_length a_ops a_thirds a_need D M E L S O m i a_numbers a_ints a_counts a_fields a_ending a_stage a_fMethod a_fLine a_held a_lent b_value b_fields b_alive b_variable b_loan b_todo b_phase) (NB : rn_NB f_brief a_length a_need D m i b_variable) (hC : cd_C a_length a_ops a_firsts a_seconds a_thirds b_as b_bs) (hA : an_A a_length a_lends a_ops a_firsts a_seconds a_thirds a_need a_loan a_hands a_keeps a_come b_as b_bs b_need b_plans b_keep) (hi : i < rn_len a_length m) (hS : S < 300) {a : Nat} (ha : a < 6) (ea : a_firsts (16 * m + i) = nI a) (eb : b_as (16 * m + i) = nI a) (eo : a_ops (16 * m + i) = nI 8) : st_O f_known f_brief g_ran a_length a_lends a_ops a_firsts a_seconds a_thirds a_need a_loan a_hands a_keeps a_come b_as b_bs b_need b_plans b_keep D S (fun post => wpX_step post (f_known, nI D, f_brief, nI O, nI E, f_ups, f_downs, nI (S + 1), nI M, nI L, 0, (-1), (-1), a_length, a_lends, a_ops, a_firsts, a_seconds, a_thirds, a_need, a_loan, a_hands, a_keeps, a_come, a_numbers, a_ints, a_counts, a_fields, a_ending, a_stage, a_fMethod, a_fLine, a_held, a_lent, a_outs, a_ends) (nI (16 * m + i)) (nI i)) (fun post => wpY_carryOut post (f_known, nI M, nI L, f_ups, f_downs, nI D, nI (S + 1), 0, (-1), f_brief, g_ran, nI O, nI E, a_ops, b_as, b_bs, a_thirds, a_length, a_lends, b_need, b_plans, b_keep, b_value, b_fields, b_alive, a_fMethod, a_fLine, b_variable, b_loan, a_outs, a_ends, b_todo, b_phase) (nI (6 * (D - 1))) (nI (16 * m + i))) := by
  have hv := st_var ha F NB
  have F' := F
  obtain ⟨hD1, hD6, hMS, hOS, hS3, hm, hi16, eM, eL, hfr, H, V, LS⟩ := F'
  obtain ⟨hL24, hEL, hM⟩ := hp_L24 H
  have hl16 := (cd_len hC hm).1
  have ck : (nI (16 * m + i)).toNatClampNeg = 16 * m + i := nI_clamp (by omega)
  have vk : vp_in (nI (16 * m + i)) 64 := vp_in_nI (by omega) (by omega)
  have cd : (nI (D - 1)).toNatClampNeg = D - 1 := nI_clamp (by omega)
  have vd : vp_in (nI (D - 1)) 6 := vp_in_nI (by omega) (by omega)
  have LP := rn_lpof hD1 (Or.inr (by rw [eo]; unfold rn_mild; decide)) NB LS
  obtain ⟨t, ht, ey⟩ : ∃ t, t ≤ M ∧ b_variable (6 * (D - 1) + a) = nI t := by
    rcases hv with ⟨ex, ey⟩ | ⟨q, t, hq, h1, hM', ex, ey, hn, hal⟩
    · exact ⟨0, by omega, ey⟩
    · exact ⟨t, hM', ey⟩
  by_cases hsk : t = 0 ∨ ¬ st_al (hp_RC 0 b_variable b_loan D t + hp_FC b_fields M t) (nI t) (b_loan (6 * (D - 1) + a)) = 0
  · have F1 : rn_F0 f_brief a_length a_ops a_thirds a_need D M E L (S + 1) O m (i + 1) a_numbers a_ints a_counts a_fields a_ending a_stage a_fMethod (upd a_fLine (D - 1) (nI (i + 1))) a_held a_lent b_value b_fields b_alive b_variable b_loan b_todo b_phase := st_F0 F hS (by omega) (by omega) (by omega) H V (rn_lpls LP)
    refine Or.inl ⟨D, M, E, L, S + 1, O, m, i + 1, f_ups, f_downs, a_numbers, a_ints, a_counts, a_fields, a_ending, a_stage, a_fMethod, upd a_fLine (D - 1) (nI (i + 1)), a_held, a_lent, a_outs, a_ends, b_value, b_fields, b_alive, b_variable, b_loan, b_todo, b_phase, F1, by omega, fun u hdr post hp => ?_, fun post hp => ?_⟩
    · have K : wX_step_240 post (nI (16 * m + i)) (nI i) (nI a) f_known (nI D) f_brief (nI O) (nI E) f_ups f_downs (nI (S + 1)) (nI M) (nI L) 0 (-1) (-1) a_length a_lends a_ops a_firsts a_seconds a_thirds a_need a_loan a_hands a_keeps a_come a_numbers a_ints a_counts a_fields a_ending a_stage a_fMethod a_fLine a_held a_lent a_outs a_ends := st_xn hD1 hD6 (by omega) (by omega) eo (by decide) (by decide) tl_n1' hdr hp
      refine And.intro vk (nm_r (e' := nI a) (by rw [ck]; exact ea) (And.intro vk (nm_r (e' := nI 8) (by rw [ck]; exact eo) (br_f (by decide) (br_f (by decide) (br_f (by decide) (br_f (by decide) (br_f (by decide) (br_f (by decide) (br_f (by decide) (br_f (by decide) (br_f (by decide) (br_f (by decide) (br_t rfl (st_only ha F NB ?_)))))))))))))))
      rw [ey, nI_clamp (by omega)]
      by_cases z : st_al (hp_RC 0 b_variable b_loan D t + hp_FC b_fields M t) (nI t) (b_loan (6 * (D - 1) + a)) = 0
      · refine br_t z (vg_var hD1 hD6 ha ?_)
        have ht0 : t = 0 := by
          rcases hsk with h | h
          · exact h
          · exact absurd z h
        have hx : a_held (6 * (D - 1) + a) = -1 := by
          rcases hv with ⟨ex, _⟩ | ⟨q, t', hq, h1, hM', ex, ey', hn, hal⟩
          · exact ex
          · have := tl_inj (ey.symm.trans ey') (by omega) (by omega)
            omega
        rw [hx]
        exact br_t tl_m1lt K
      · exact br_f z K
    · refine sy_in (a := a) (o := 8) hD1 hD6 (by omega) ha eo eb (by decide) (by decide) ?_
      rw [ey]
      refine sy_ok (t := t) (by omega) hM hD6 ht (by omega) (fun z => by omega) (fun z => by omega) (fun z => by omega) (fun z => by omega) ?_
      have K2 : ∀ al : Int32, (t = 0 ∨ ¬ al = 0) → wY_carryOut_193 post (nI (16 * m + i)) (nI 8) (nI (6 * (D - 1) + a)) (nI (6 * (D - 1)) + b_bs (16 * m + i)) (a_thirds (16 * m + i)) (nI t) 0 al f_known (nI M) (nI L) f_ups f_downs (nI D) (nI (S + 1)) 0 (-1) f_brief g_ran (nI O) (nI E) a_ops b_as b_bs a_thirds a_length a_lends b_need b_plans b_keep b_value b_fields b_alive a_fMethod a_fLine b_variable b_loan a_outs a_ends b_todo b_phase := by
        intro al hal
        refine sy_281 hD1 hD6 (by omega) eL ?_
        refine And.intro vd (nm_r (e' := upd a_fLine (D - 1) (nI (i + 1))) (by rw [cd]) (br_f (by decide) (br_f (by decide) (br_f (by decide) (br_t rfl ?_)))))
        by_cases z : t = 0
        · rw [z]
          exact br_t (by decide) (br_t (by decide) hp)
        · refine br_f (nI_nle (by omega) (by omega)) (br_f ?_ (br_t (by decide) hp))
          rcases hal with h | h
          · exact absurd h z
          · exact h
      refine br_t rfl ?_
      by_cases z : t = 0
      · refine br_t (by rw [z]; decide) (K2 _ (Or.inl z))
      · have hne : ¬ st_al (hp_RC 0 b_variable b_loan D t + hp_FC b_fields M t) (nI t) (b_loan (6 * (D - 1) + a)) = 0 := by
          rcases hsk with h | h
          · exact absurd h z
          · exact h
        exact br_f (nI_nle (by omega) (by omega)) (br_f hne (K2 _ (Or.inr hne)))
  · have ht0 : t ≠ 0 := fun z => hsk (Or.inl z)
    have hal0 : st_al (hp_RC 0 b_variable b_loan D t + hp_FC b_fields M t) (nI t) (b_loan (6 * (D - 1) + a)) = 0 := Classical.byContradiction (fun z => hsk (Or.inr z))
    obtain ⟨q, hq, ex, hn, hal⟩ : ∃ q, q < 24 ∧ a_held (6 * (D - 1) + a) = nI q ∧ a_numbers q = nI t ∧ b_alive t ≠ 0 := by
      rcases hv with ⟨_, ey'⟩ | ⟨q, t', hq, h1, hM', ex, ey', hn, hal⟩
      · rw [ey] at ey'
        exact absurd ey' (nI_ne0 (by omega) (by omega))
      · have := tl_inj (ey.symm.trans ey') (by omega) (by omega)
        subst this
        exact ⟨q, hq, ex, hn, hal⟩
    by_cases hL : L = 24
    · subst hL
      have F1 : rn_F0 f_brief a_length a_ops a_thirds a_need D M E 24 (S + 1) O m i a_numbers a_ints a_counts a_fields a_ending a_stage a_fMethod a_fLine a_held a_lent b_value b_fields b_alive b_variable b_loan b_todo b_phase := ⟨hD1, hD6, by omega, by omega, by omega, hm, hi16, eM, eL, hfr, H, V, LS⟩
      refine Or.inr (Or.inl ⟨1, D, M, E, 24, S + 1, O, m, i, f_ups, f_downs, a_numbers, a_ints, a_counts, a_fields, a_ending, a_stage, a_fMethod, a_fLine, a_held, a_lent, a_outs, a_ends, b_value, b_fields, b_alive, b_variable, b_loan, b_todo, b_phase, Or.inl rfl, F1, fun post hp => ?_, fun post hp => ?_⟩)
      · refine And.intro vk (nm_r (e' := nI a) (by rw [ck]; exact ea) (And.intro vk (nm_r (e' := nI 8) (by rw [ck]; exact eo) (br_f (by decide) (br_f (by decide) (br_f (by decide) (br_f (by decide) (br_f (by decide) (br_f (by decide) (br_f (by decide) (br_f (by decide) (br_f (by decide) (br_f (by decide) (br_t rfl (st_only ha F NB ?_)))))))))))))))
        rw [ey, nI_clamp (by omega)]
        refine br_t hal0 (vg_var hD1 hD6 ha ?_)
        rw [ex]
        refine br_f (nI_pos (by omega)) ?_
        unfold wpX_own
        refine vg_var hD1 hD6 ha ?_
        rw [ex]
        exact ⟨vp_in_nI hq (by omega), br_t rfl (br_f tl_m1le (br_t rfl (st_xf hp)))⟩
      · refine sy_in (a := a) (o := 8) hD1 hD6 (by omega) ha eo eb (by decide) (by decide) ?_
        rw [ey]
        refine sy_ok (t := t) (by omega) hM hD6 ht (by omega) (fun z => by omega) (fun z => by omega) (fun z => by omega) (fun z => by omega) ?_
        exact br_t rfl (br_f (nI_nle (by omega) (by omega)) (br_t hal0 (br_t rfl hp)))
    · obtain ⟨o, ho, H1, hw, hXm⟩ := mk_j (f_known := f_known) (f_depth := nI D) (f_brief := f_brief) (f_outCount := nI O) (f_endCount := nI E) (f_ups := f_ups) (f_downs := f_downs) (f_steps := nI (S + 1)) (f_gift := 0) (f_ended := -1) (f_stopped := -1) (a_length := a_length) (a_lends := a_lends) (a_ops := a_ops) (a_firsts := a_firsts) (a_seconds := a_seconds) (a_thirds := a_thirds) (a_need := a_need) (a_loan := a_loan) (a_hands := a_hands) (a_keeps := a_keeps) (a_come := a_come) (a_numbers := a_numbers) (a_ints := a_ints) (a_counts := a_counts) (a_fields := a_fields) (a_ending := a_ending) (a_stage := a_stage) (a_fMethod := a_fMethod) (a_fLine := a_fLine) (a_held := a_held) (a_lent := a_lent) (a_outs := a_outs) (a_ends := a_ends) (v := b_value t) (by omega) (by omega) H
      have hqo : q ≠ o := fun z => by
        have k := H1.2.2.2.2.2.2.2.1 o (M + 1) ho (by omega) (by omega) tl_us (by rw [tl_us]; exact tl_n1)
        have hz : a_numbers o = 0 := by
          refine Classical.byContradiction (fun hnz => ?_)
          have := H1.2.2.2.2.2.2.2.2.2.2.1
          have hsum := H.2.2.2.2.2.2.2.2.2.2.1
          have hup := sm_up (f := hp_lv a_numbers b_alive) (g := hp_lv (upd a_numbers o (nI (M + 1))) (upd b_alive (M + 1) 1)) ho (fun p hp hk => by
            obtain ⟨n, hn', e⟩ := H.2.1 p hp
            unfold hp_lv
            rw [tl_un hk, e, nI_clamp (by omega), tl_un (show n ≠ M + 1 by omega)])
          rw [← z] at hup
          rw [hp_lv1 hn (by omega) (by omega) hal, hp_lv1 tl_us (by omega) (by omega) (by rw [tl_us]; exact tl_n1)] at hup
          rw [← z] at this
          omega
        rw [← z, hn] at hz
        exact nI_ne0 (by omega) (by omega) hz
      have a1 : (upd b_alive (M + 1) 1) (M + 1) ≠ 0 := by rw [tl_us]; exact tl_n1
      have a2 : (upd b_alive (M + 1) 1) t ≠ 0 := by rw [tl_un (by omega)]; exact hal
      have n1 : (upd a_numbers o (nI (M + 1))) q = nI t := by rw [tl_un hqo]; exact hn
      have n2 : (upd a_numbers o (nI (M + 1))) o = nI (M + 1) := tl_us
      -- field 0
      obtain ⟨w0, H2⟩ := ow_h (f := 0) hq ho (show 1 ≤ t by omega) (show t ≤ M + 1 by omega) (by omega) (Nat.le_refl _) n1 n2 a2 a1 (by omega) (by rw [mk_fs (by omega), if_pos rfl]) H1
      -- field 1
      obtain ⟨w1, H3⟩ := ow_h (f := 1) hq ho (show 1 ≤ t by omega) (show t ≤ M + 1 by omega) (by omega) (Nat.le_refl _) n1 n2 a2 a1 (by omega) (by rw [tl_un (by omega), mk_fs (by omega), if_pos rfl]) H2
      -- field 2
      have w2 := (H3.2.2.2.2.2.2.2.1 q t hq (by omega) (by omega) n1 a2).2 2 (by omega)
      have al2 := fd_al (t := t) (c := 2) (by omega) (by omega) (by omega) a2 (by omega) H3
      have H4 := hp_putw ho (show 1 ≤ M + 1 by omega) (Nat.le_refl _) n2 w2 al2 H3
      have V1 : vr_V D (M + 1) (upd a_numbers o (nI (M + 1))) (upd b_alive (M + 1) 1) a_held a_lent b_variable b_loan := ⟨fun w hw' => ⟨hw _ _ (V.1 w hw').1, (V.1 w hw').2⟩, V.2⟩
      obtain ⟨E', L', f_downs', a_numbers', a_counts', a_fields', a_ending', a_stage', a_ends', b_fields', b_alive', b_todo', b_phase', H5, hm5, V5, hX5, hY5⟩ := vg_let (f_known := f_known) (f_brief := f_brief) (f_outCount := nI O) (f_ups := up_u (up_u f_ups (mk_f a_fields o (-1) (3 * q + 0))) (upd (mk_f a_fields o (-1)) (3 * o + 0) (mk_f a_fields o (-1) (3 * q + 0)) (3 * q + 1))) (f_steps := nI (S + 1)) (f_gift := 0) (f_ended := -1) (f_stopped := -1) (a_length := a_length) (a_lends := a_lends) (a_ops := a_ops) (a_firsts := a_firsts) (a_seconds := a_seconds) (a_thirds := a_thirds) (a_need := a_need) (a_loan := a_loan) (a_hands := a_hands) (a_keeps := a_keeps) (a_come := a_come) (a_fMethod := a_fMethod) (a_fLine := a_fLine) (a_held := a_held) (a_lent := a_lent) (a_outs := a_outs) (g_known := f_known) (g_counted := up_u (up_u f_ups (mk_f a_fields o (-1) (3 * q + 0))) (upd (mk_f a_fields o (-1)) (3 * o + 0) (mk_f a_fields o (-1) (3 * q + 0)) (3 * q + 1))) (g_begun := nI (S + 1)) (g_outcome := -1) (g_isShort := f_brief) (g_ran := g_ran) (g_put := nI O) (b_ops := a_ops) (b_as := b_as) (b_bs := b_bs) (b_cs := a_thirds) (b_size := a_length) (b_lent := a_lends) (b_need := b_need) (b_plans := b_plans) (b_keep := b_keep) (b_method := a_fMethod) (b_pc := upd a_fLine (D - 1) (nI (i + 1))) (b_variable := b_variable) (b_loan := b_loan) (b_outs := a_outs) (f_made := nI (M + 1)) (f_downs := f_downs) (a_ends := a_ends) (x := nI o) (y := nI (M + 1)) (lo := 0) hD1 hD6 ha (Or.inr ⟨o, M + 1, ho, by omega, by omega, rfl, rfl, fun _ => tl_us⟩) V1 (hp_cg (fun n h1 h2 => by rw [if_pos rfl]) H4)
      have elo : vr_lo 0 (nI (M + 1)) = 0 := if_pos rfl
      rw [elo] at H5 V5
      rw [elo] at hY5
      have F1 : rn_F0 f_brief a_length a_ops a_thirds a_need D (M + 1) E' L' (S + 1) O m (i + 1) a_numbers' (upd a_ints o (b_value t)) a_counts' a_fields' a_ending' a_stage' a_fMethod (upd a_fLine (D - 1) (nI (i + 1))) (upd a_held (6 * (D - 1) + a) (nI o)) (upd a_lent (D - 1) (vr_le (a_lent (D - 1)) a 0)) (upd b_value (M + 1) (b_value t)) b_fields' b_alive' (upd b_variable (6 * (D - 1) + a) (nI (M + 1))) (upd b_loan (6 * (D - 1) + a) 0) b_todo' b_phase' :=
        st_F0 F hS (by omega) (by omega) (by omega) H5 V5 (rn_lpls (rn_lpu (by omega) (Or.inl rfl) LP))
      have hval := (H.2.2.2.2.2.2.2.1 q t hq (by omega) ht hn hal).1
      refine Or.inl ⟨D, M + 1, E', L', S + 1, O, m, i + 1, up_u (up_u f_ups (mk_f a_fields o (-1) (3 * q + 0))) (upd (mk_f a_fields o (-1)) (3 * o + 0) (mk_f a_fields o (-1) (3 * q + 0)) (3 * q + 1)), f_downs', a_numbers', upd a_ints o (b_value t), a_counts', a_fields', a_ending', a_stage', a_fMethod, upd a_fLine (D - 1) (nI (i + 1)), upd a_held (6 * (D - 1) + a) (nI o), upd a_lent (D - 1) (vr_le (a_lent (D - 1)) a 0), a_outs, a_ends', upd b_value (M + 1) (b_value t), b_fields', b_alive', upd b_variable (6 * (D - 1) + a) (nI (M + 1)), upd b_loan (6 * (D - 1) + a) 0, b_todo', b_phase', F1, by omega, fun u hdr post hp => ?_, fun post hp => ?_⟩
      · refine And.intro vk (nm_r (e' := nI a) (by rw [ck]; exact ea) (And.intro vk (nm_r (e' := nI 8) (by rw [ck]; exact eo) (br_f (by decide) (br_f (by decide) (br_f (by decide) (br_f (by decide) (br_f (by decide) (br_f (by decide) (br_f (by decide) (br_f (by decide) (br_f (by decide) (br_f (by decide) (br_t rfl (st_only ha F NB ?_)))))))))))))))
        rw [ey, nI_clamp (by omega)]
        refine br_t hal0 (vg_var hD1 hD6 ha ?_)
        rw [ex]
        refine br_f (nI_pos (by omega)) ?_
        unfold wpX_own
        refine vg_var hD1 hD6 ha ?_
        rw [ex, nI_clamp (by omega), hval]
        refine ⟨vp_in_nI hq (by omega), hXm _ ?_⟩
        refine br_t (nI_pos' (n := o) (by omega)) ⟨4, ?_⟩
        refine ow_xs (M := M + 1) (f := 0) (by omega) hq ho (by omega) w0 ?_
        refine ow_xs (M := M + 1) (f := 1) (by omega) hq ho (by omega) w1 ?_
        refine ow_x2 (M := M + 1) hq ho w2 ?_
        rw [wX_own_26]
        exact br_t (by decide) (hX5 _ (br_f tl_n1' (st_xn hD1 hD6 (by omega) (by omega) eo (by decide) (by decide) tl_n1' hdr hp)))
      · refine sy_in (a := a) (o := 8) hD1 hD6 (by omega) ha eo eb (by decide) (by decide) ?_
        rw [ey]
        refine sy_ok (t := t) (by omega) hM hD6 ht (by omega) (fun z => by omega) (fun z => by omega) (fun z => by omega) (fun z => by omega) ?_
        refine br_t rfl (br_f (nI_nle (by omega) (by omega)) (br_t hal0 (br_f (fun z => hL (tl_inj (b := 24) z (by omega) (by omega))) (sy_281 hD1 hD6 (by omega) eL ?_))))
        refine And.intro vd (nm_r (e' := upd a_fLine (D - 1) (nI (i + 1))) (by rw [cd]) (br_f (by decide) (br_f (by decide) (br_f (by decide) (br_t rfl (br_f (nI_nle (by omega) (by omega)) (br_t hal0 ?_)))))))
        unfold wpY_own
        dsimp only
        rw [nI_clamp (by omega)]
        refine ⟨vp_in_nI (by omega) (by omega), mk_y (by omega) ⟨4, ?_⟩⟩
        refine ow_ys (M := M + 1) (f := 0) (by omega) (by omega) (by omega) (by omega) w0 ?_
        refine ow_ys (M := M + 1) (f := 1) (by omega) (by omega) (by omega) (by omega) w1 ?_
        refine ow_y2 (by omega) (by omega) ?_
        rw [wY_own_14]
        exact br_t (by decide) (hY5 _ hp)
end
end
section
section
variable {f_known f_depth f_brief f_outCount f_endCount f_ups f_downs f_steps f_made f_alive f_gift f_ended f_stopped : Int32} {a_length a_lends a_ops a_firsts a_seconds a_thirds a_need a_loan a_hands a_keeps a_come a_numbers a_ints a_counts a_fields a_ending a_stage a_fMethod a_fLine a_held a_lent a_outs a_ends : Nat → Int32}
variable {g_known g_made g_living g_counted g_less g_depth g_begun g_given g_outcome g_isShort g_ran g_put g_ended : Int32} {b_ops b_as b_bs b_cs b_size b_lent b_need b_plans b_keep b_value b_fields b_alive b_method b_pc b_variable b_loan b_outs b_ends b_todo b_phase : Nat → Int32}
variable {D M E L S O m i : Nat} {rc : Nat → Nat}
theorem cd_a {k : Nat} (hC : cd_C a_length a_ops a_firsts a_seconds a_thirds b_as b_bs) (hk : k < 64) (h10 : ¬ a_ops k = 10) (h13 : ¬ a_ops k = 13) : ∃ a : Nat, a < 6 ∧ a_firsts k = nI a ∧ b_as k = nI a := by
  obtain ⟨o, ho, eo, hA1, _⟩ := hC.2 k hk
  exact hA1 (fun z => h10 (by rw [eo, z]; rfl)) (fun z => h13 (by rw [eo, z]; rfl))
theorem st_mono {D0 S0 : Nat} {WX WX' : (SX → Prop) → Prop} {WY WY' : (SY → Prop) → Prop} (hX : ∀ post, WX post → WX' post) (hY : ∀ post, WY post → WY' post) (h : st_O f_known f_brief g_ran a_length a_lends a_ops a_firsts a_seconds a_thirds a_need a_loan a_hands a_keeps a_come b_as b_bs b_need b_plans b_keep D0 S0 WX WY) : st_O f_known f_brief g_ran a_length a_lends a_ops a_firsts a_seconds a_thirds a_need a_loan a_hands a_keeps a_come b_as b_bs b_need b_plans b_keep D0 S0 WX' WY' := by
  rcases h with ⟨D, M, E, L, S, O, m, i, f_ups, f_downs, a_numbers, a_ints, a_counts, a_fields, a_ending, a_stage, a_fMethod, a_fLine, a_held, a_lent, a_outs, a_ends, b_value, b_fields, b_alive, b_variable, b_loan, b_todo, b_phase, F, hm, h1, h2⟩ | ⟨r, D, M, E, L, S, O, m, i, f_ups, f_downs, a_numbers, a_ints, a_counts, a_fields, a_ending, a_stage, a_fMethod, a_fLine, a_held, a_lent, a_outs, a_ends, b_value, b_fields, b_alive, b_variable, b_loan, b_todo, b_phase, hr, F, h1, h2⟩ | ⟨g, D, M, E, L, S, O, m, i, f_ups, f_downs, a_numbers, a_ints, a_counts, a_fields, a_ending, a_stage, a_fMethod, a_fLine, a_held, a_lent, a_outs, a_ends, b_value, b_fields, b_alive, b_variable, b_loan, b_todo, b_phase, F, h1, h2⟩
  · exact Or.inl ⟨D, M, E, L, S, O, m, i, f_ups, f_downs, a_numbers, a_ints, a_counts, a_fields, a_ending, a_stage, a_fMethod, a_fLine, a_held, a_lent, a_outs, a_ends, b_value, b_fields, b_alive, b_variable, b_loan, b_todo, b_phase, F, hm, fun u hdr post hp => hX post (h1 u hdr post hp), fun post hp => hY post (h2 post hp)⟩
  · exact Or.inr (Or.inl ⟨r, D, M, E, L, S, O, m, i, f_ups, f_downs, a_numbers, a_ints, a_counts, a_fields, a_ending, a_stage, a_fMethod, a_fLine, a_held, a_lent, a_outs, a_ends, b_value, b_fields, b_alive, b_variable, b_loan, b_todo, b_phase, hr, F, fun post hp => hX post (h1 post hp), fun post hp => hY post (h2 post hp)⟩)
  · exact Or.inr (Or.inr ⟨g, D, M, E, L, S, O, m, i, f_ups, f_downs, a_numbers, a_ints, a_counts, a_fields, a_ending, a_stage, a_fMethod, a_fLine, a_held, a_lent, a_outs, a_ends, b_value, b_fields, b_alive, b_variable, b_loan, b_todo, b_phase, F, fun post hp => hX post (h1 post hp), fun post hp => hY post (h2 post hp)⟩)
theorem qv_LP (hD1 : 1 ≤ D) (h : rn_LP f_brief (D + 1) b_variable b_loan) : rn_LP f_brief D (qv_f b_variable (D + 1) 0) (qv_f b_loan (D + 1) 0) := by
  have eo : ∀ (f : Nat → Int32) w, w < 6 * D → qv_f f (D + 1) 0 w = f w := fun f w hw => qv_flo (by omega)
  intro w hw hl hv
  rw [eo _ w hw] at hl hv
  obtain ⟨hb, w', h1, h2, h3⟩ := h w (by omega) hl hv
  exact ⟨hb, w', h1, by rw [eo _ w' (by omega)]; exact h2, by rw [eo _ w' (by omega), eo _ w hw]; exact h3⟩
/-- the method ends on both sides -/
theorem qv_O {S0 : Nat} {x1 : Int32} (hD1 : 1 ≤ D) (hD6 : D ≤ 6) (hMS : M ≤ S) (hOS : O ≤ S) (hS : S ≤ 300) (hS0 : S0 ≤ S) (hfr : rn_fr a_length a_ops D a_fMethod a_fLine) (hC : cd_C a_length a_ops a_firsts a_seconds a_thirds b_as b_bs)
    (hxy : hp_RW M a_numbers b_alive x1 g_given) (V : vr_V D M a_numbers b_alive a_held a_lent b_variable b_loan) (LP : rn_LP f_brief D b_variable b_loan) (H : HR M E L 0 (hp_RC g_given b_variable b_loan D) a_numbers a_ints a_counts a_fields a_ending a_stage b_value b_fields b_alive b_todo b_phase) :
    st_O f_known f_brief g_ran a_length a_lends a_ops a_firsts a_seconds a_thirds a_need a_loan a_hands a_keeps a_come b_as b_bs b_need b_plans b_keep D S0 (fun post => wpX_leave post (f_known, nI D, f_brief, nI O, nI E, f_ups, f_downs, nI S, nI M, nI L, 0, (-1), (-1), a_length, a_lends, a_ops, a_firsts, a_seconds, a_thirds, a_need, a_loan, a_hands, a_keeps, a_come, a_numbers, a_ints, a_counts, a_fields, a_ending, a_stage, a_fMethod, a_fLine, a_held, a_lent, a_outs, a_ends) x1) (fun post => wpY_leave post (f_known, nI M, nI L, f_ups, f_downs, nI D, nI S, g_given, (-1), f_brief, g_ran, nI O, nI E, a_ops, b_as, b_bs, a_thirds, a_length, a_lends, b_need, b_plans, b_keep, b_value, b_fields, b_alive, a_fMethod, a_fLine, b_variable, b_loan, a_outs, a_ends, b_todo, b_phase)) := by
  by_cases z : D = 1
  · subst z
    obtain ⟨E', L', f_downs', a_numbers', a_counts', a_fields', a_ending', a_stage', a_ends', b_fields', b_alive', b_todo', b_phase', a_held', a_lent', H1, hX, hY⟩ := qv_done (f_known := f_known) (f_brief := f_brief) (f_outCount := nI O) (f_ups := f_ups) (f_steps := nI S) (f_gift := 0) (f_ended := -1) (f_stopped := -1) (a_length := a_length) (a_lends := a_lends) (a_ops := a_ops) (a_firsts := a_firsts) (a_seconds := a_seconds) (a_thirds := a_thirds) (a_need := a_need) (a_loan := a_loan) (a_hands := a_hands) (a_keeps := a_keeps) (a_come := a_come) (a_fMethod := a_fMethod) (a_fLine := a_fLine) (a_held := a_held) (a_lent := a_lent) (a_outs := a_outs) (g_known := f_known) (g_counted := f_ups) (g_begun := nI S) (g_outcome := -1) (g_isShort := f_brief) (g_ran := g_ran) (g_put := nI O) (b_ops := a_ops) (b_as := b_as) (b_bs := b_bs) (b_cs := a_thirds) (b_size := a_length) (b_lent := a_lends) (b_need := b_need) (b_plans := b_plans) (b_keep := b_keep) (b_method := a_fMethod) (b_pc := a_fLine) (b_variable := b_variable) (b_loan := b_loan) (b_outs := a_outs) (f_made := nI M) (f_downs := f_downs) (a_ends := a_ends) hxy V H
    exact Or.inr (Or.inr ⟨g_given, 1, M, E', L', S, O, 0, 0, f_ups, f_downs', a_numbers', a_ints, a_counts', a_fields', a_ending', a_stage', a_fMethod, a_fLine, a_held', a_lent', a_outs, a_ends', b_value, b_fields', b_alive', qv_f b_variable 1 0, qv_f b_loan 1 0, b_todo', b_phase', ⟨H1, hMS, hOS, hS⟩, hX, hY⟩)
  · obtain ⟨D', rfl⟩ : ∃ D', D = D' + 1 := ⟨D - 1, by omega⟩
    obtain ⟨m', i', hm', hi', eM', eL', eo'⟩ := hfr (D' - 1) (by omega)
    have hl16 := (cd_len hC hm').1
    obtain ⟨a, ha, ea, eb⟩ := cd_a hC (show 16 * m' + i' < 64 by omega) (by rw [eo']; decide) (by rw [eo']; decide)
    obtain ⟨E', L', f_downs', a_numbers', a_counts', a_fields', a_ending', a_stage', a_ends', b_fields', b_alive', b_todo', b_phase', a_held', a_lent', H1, hm1, V1, hX, hY⟩ := qv_ret (f_known := f_known) (f_brief := f_brief) (f_outCount := nI O) (f_ups := f_ups) (f_steps := nI S) (f_gift := 0) (f_ended := -1) (f_stopped := -1) (a_length := a_length) (a_lends := a_lends) (a_ops := a_ops) (a_firsts := a_firsts) (a_seconds := a_seconds) (a_thirds := a_thirds) (a_need := a_need) (a_loan := a_loan) (a_hands := a_hands) (a_keeps := a_keeps) (a_come := a_come) (a_fMethod := a_fMethod) (a_fLine := a_fLine) (a_held := a_held) (a_lent := a_lent) (a_outs := a_outs) (g_known := f_known) (g_counted := f_ups) (g_begun := nI S) (g_outcome := -1) (g_isShort := f_brief) (g_ran := g_ran) (g_put := nI O) (b_ops := a_ops) (b_as := b_as) (b_bs := b_bs) (b_cs := a_thirds) (b_size := a_length) (b_lent := a_lends) (b_need := b_need) (b_plans := b_plans) (b_keep := b_keep) (b_method := a_fMethod) (b_pc := a_fLine) (b_variable := b_variable) (b_loan := b_loan) (b_outs := a_outs) (f_made := nI M) (f_downs := f_downs) (a_ends := a_ends) (D := D') (m := m') (i := i') (by omega) (by omega) hm' (by omega) eM' eL' eM' eL' ha ea eb hxy V H
    have F1 : rn_F0 f_brief a_length a_ops a_thirds a_need D' M E' L' S O m' (i' + 1) a_numbers' a_ints a_counts' a_fields' a_ending' a_stage' a_fMethod (upd a_fLine (D' - 1) (nI (i' + 1))) a_held' a_lent' b_value b_fields' b_alive' (upd (qv_f b_variable (D' + 1) 0) (6 * (D' - 1) + a) g_given) (upd (qv_f b_loan (D' + 1) 0) (6 * (D' - 1) + a) 0) b_todo' b_phase' := by
      refine ⟨by omega, by omega, hMS, hOS, hS, hm', by omega, eM', tl_us, fun d hd => ?_, H1, V1, rn_lpls (rn_lpu (by omega) (Or.inl rfl) (qv_LP (by omega) LP))⟩
      obtain ⟨m2, i2, k1, k2, k3, k4, k5⟩ := hfr d (by omega)
      exact ⟨m2, i2, k1, k2, k3, by rw [tl_un (by omega)]; exact k4, k5⟩
    exact Or.inl ⟨D', M, E', L', S, O, m', i' + 1, f_ups, f_downs', a_numbers', a_ints, a_counts', a_fields', a_ending', a_stage', a_fMethod, upd a_fLine (D' - 1) (nI (i' + 1)), a_held', a_lent', a_outs, a_ends', b_value, b_fields', b_alive', upd (qv_f b_variable (D' + 1) 0) (6 * (D' - 1) + a) g_given, upd (qv_f b_loan (D' + 1) 0) (6 * (D' - 1) + a) 0, b_todo', b_phase', F1, by omega, hX, hY⟩
/-- END -/
theorem op_13 (F : rn_F0 f_brief a_length a_ops a_thirds a_need D M E L S O m i a_numbers a_ints a_counts a_fields a_ending a_stage a_fMethod a_fLine a_held a_lent b_value b_fields b_alive b_variable b_loan b_todo b_phase) (NB : rn_NB f_brief a_length a_need D m i b_variable) (hC : cd_C a_length a_ops a_firsts a_seconds a_thirds b_as b_bs) (hA : an_A a_length a_lends a_ops a_firsts a_seconds a_thirds a_need a_loan a_hands a_keeps a_come b_as b_bs b_need b_plans b_keep) (hi : i < rn_len a_length m) (hS : S < 300) (eo : a_ops (16 * m + i) = nI 13) : st_O f_known f_brief g_ran a_length a_lends a_ops a_firsts a_seconds a_thirds a_need a_loan a_hands a_keeps a_come b_as b_bs b_need b_plans b_keep D S (fun post => wpX_step post (f_known, nI D, f_brief, nI O, nI E, f_ups, f_downs, nI (S + 1), nI M, nI L, 0, (-1), (-1), a_length, a_lends, a_ops, a_firsts, a_seconds, a_thirds, a_need, a_loan, a_hands, a_keeps, a_come, a_numbers, a_ints, a_counts, a_fields, a_ending, a_stage, a_fMethod, a_fLine, a_held, a_lent, a_outs, a_ends) (nI (16 * m + i)) (nI i)) (fun post => wpY_carryOut post (f_known, nI M, nI L, f_ups, f_downs, nI D, nI (S + 1), 0, (-1), f_brief, g_ran, nI O, nI E, a_ops, b_as, b_bs, a_thirds, a_length, a_lends, b_need, b_plans, b_keep, b_value, b_fields, b_alive, a_fMethod, a_fLine, b_variable, b_loan, a_outs, a_ends, b_todo, b_phase) (nI (6 * (D - 1))) (nI (16 * m + i))) := by
  have F' := F
  obtain ⟨hD1, hD6, hMS, hOS, hS3, hm, hi16, eM, eL, hfr, H, V, LS⟩ := F'
  obtain ⟨hL24, hEL, hM⟩ := hp_L24 H
  have hl16 := (cd_len hC hm).1
  have ck : (nI (16 * m + i)).toNatClampNeg = 16 * m + i := nI_clamp (by omega)
  have vk : vp_in (nI (16 * m + i)) 64 := vp_in_nI (by omega) (by omega)
  have LP := rn_lpof hD1 (Or.inr (by rw [eo]; unfold rn_mild; decide)) NB LS
  have K := qv_O (f_known := f_known) (f_ups := f_ups) (f_downs := f_downs) (a_outs := a_outs) (a_ends := a_ends) (g_ran := g_ran) (a_lends := a_lends) (a_need := a_need) (a_loan := a_loan) (a_hands := a_hands) (a_keeps := a_keeps) (a_come := a_come) (b_need := b_need) (b_plans := b_plans) (b_keep := b_keep) (S := S + 1) (S0 := S) (O := O) (x1 := -1) (g_given := 0) hD1 hD6 (by omega) (by omega) (by omega) (by omega) hfr hC (Or.inl ⟨rfl, rfl⟩) V LP H
  refine st_mono (fun post h => ?_) (fun post h => ?_) K
  · refine And.intro vk (nm_e (And.intro vk (nm_r (e' := nI 13) (by rw [ck]; exact eo) (br_f (by decide) (br_t (by decide) ⟨vk, br_t (by rw [ck, eo]; rfl) h⟩)))))
  · unfold wpY_carryOut
    dsimp only
    rw [ck]
    exact ⟨vk, nm_r eo ⟨vk, nm_e ⟨vk, nm_e ⟨vk, nm_e (br_f (by decide) (br_t rfl (br_f (by decide) (br_f (by decide) (br_f (by decide) (br_f (by decide) (br_f (by decide) (br_t (by decide) (br_f (by decide) (br_t rfl (br_f (by decide) (br_f (by decide) (br_t rfl (br_f (by decide) (h)))))))))))))))⟩⟩⟩⟩
/-- given: handed over or counted -/
theorem gv_j {v : Nat} (hD1 : 1 ≤ D) (hD : D ≤ 6) (hv : v < 6) (V : vr_V D M a_numbers b_alive a_held a_lent b_variable b_loan) (H : HR M E L 0 (hp_RC 0 b_variable b_loan D) a_numbers a_ints a_counts a_fields a_ending a_stage b_value b_fields b_alive b_todo b_phase)
    (hal : ∀ t, 1 ≤ t → t ≤ M → b_variable (6 * (D - 1) + v) = nI t → b_alive t ≠ 0) :
    ∃ (f_ups' : Int32) (a_counts' a_held' a_lent' b_variable' : Nat → Int32),
      HR M E L 0 (hp_RC (b_variable (6 * (D - 1) + v)) b_variable' b_loan D) a_numbers a_ints a_counts' a_fields a_ending a_stage b_value b_fields b_alive b_todo b_phase ∧
      vr_V D M a_numbers b_alive a_held' a_lent' b_variable' b_loan ∧ (b_variable' = b_variable ∨ b_variable' = upd b_variable (6 * (D - 1) + v) 0) ∧
      (∀ K : SX → Prop, K (f_known, nI D, f_brief, f_outCount, f_endCount, f_ups', f_downs, f_steps, f_made, f_alive, f_gift, f_ended, f_stopped, a_length, a_lends, a_ops, a_firsts, a_seconds, a_thirds, a_need, a_loan, a_hands, a_keeps, a_come, a_numbers, a_ints, a_counts', a_fields, a_ending, a_stage, a_fMethod, a_fLine, a_held', a_lent', a_outs, a_ends) → (f_brief = 0 → wpX_up K (f_known, nI D, f_brief, f_outCount, f_endCount, f_ups, f_downs, f_steps, f_made, f_alive, f_gift, f_ended, f_stopped, a_length, a_lends, a_ops, a_firsts, a_seconds, a_thirds, a_need, a_loan, a_hands, a_keeps, a_come, a_numbers, a_ints, a_counts, a_fields, a_ending, a_stage, a_fMethod, a_fLine, a_held, a_lent, a_outs, a_ends) (a_held (6 * (D - 1) + v))) ∧ (¬ f_brief = 0 → wpX_isLent (fun r => ((r = 0 → wpX_empty K (f_known, nI D, f_brief, f_outCount, f_endCount, f_ups, f_downs, f_steps, f_made, f_alive, f_gift, f_ended, f_stopped, a_length, a_lends, a_ops, a_firsts, a_seconds, a_thirds, a_need, a_loan, a_hands, a_keeps, a_come, a_numbers, a_ints, a_counts, a_fields, a_ending, a_stage, a_fMethod, a_fLine, a_held, a_lent, a_outs, a_ends) (nI v)) ∧ (¬ r = 0 → wpX_up K (f_known, nI D, f_brief, f_outCount, f_endCount, f_ups, f_downs, f_steps, f_made, f_alive, f_gift, f_ended, f_stopped, a_length, a_lends, a_ops, a_firsts, a_seconds, a_thirds, a_need, a_loan, a_hands, a_keeps, a_come, a_numbers, a_ints, a_counts, a_fields, a_ending, a_stage, a_fMethod, a_fLine, a_held, a_lent, a_outs, a_ends) (a_held (6 * (D - 1) + v))))) (f_known, nI D, f_brief, f_outCount, f_endCount, f_ups, f_downs, f_steps, f_made, f_alive, f_gift, f_ended, f_stopped, a_length, a_lends, a_ops, a_firsts, a_seconds, a_thirds, a_need, a_loan, a_hands, a_keeps, a_come, a_numbers, a_ints, a_counts, a_fields, a_ending, a_stage, a_fMethod, a_fLine, a_held, a_lent, a_outs, a_ends) (nI v))) ∧
      (∀ post : SY → Prop, post (g_known, g_made, g_living, f_ups', g_less, g_depth, g_begun, b_variable (6 * (D - 1) + v), g_outcome, f_brief, g_ran, g_put, g_ended, b_ops, b_as, b_bs, b_cs, b_size, b_lent, b_need, b_plans, b_keep, b_value, b_fields, b_alive, b_method, b_pc, b_variable', b_loan, b_outs, b_ends, b_todo, b_phase) → wpY_give post (g_known, g_made, g_living, f_ups, g_less, g_depth, g_begun, g_given, g_outcome, f_brief, g_ran, g_put, g_ended, b_ops, b_as, b_bs, b_cs, b_size, b_lent, b_need, b_plans, b_keep, b_value, b_fields, b_alive, b_method, b_pc, b_variable, b_loan, b_outs, b_ends, b_todo, b_phase) (nI (6 * (D - 1) + v))) := by
  obtain ⟨hL24, hEL, hM⟩ := hp_L24 H
  have hw : 6 * (D - 1) + v < 6 * D := by omega
  obtain ⟨k1, k2⟩ := V.1 _ hw
  rw [show (6 * (D - 1) + v) / 6 = D - 1 by omega, show (6 * (D - 1) + v) % 6 = v by omega] at k2
  have hmk := V.2 (D - 1) (by omega)
  have cw : (nI (6 * (D - 1) + v)).toNatClampNeg = 6 * (D - 1) + v := nI_clamp (by omega)
  have vw : vp_in (nI (6 * (D - 1) + v)) 36 := vp_in_nI (by omega) (by omega)
  obtain ⟨r1, r2, r3, r4⟩ := up_rw k1 hM
  have KYm : ∀ post : SY → Prop, post (g_known, g_made, g_living, up_u f_ups (a_held (6 * (D - 1) + v)), g_less, g_depth, g_begun, b_variable (6 * (D - 1) + v), g_outcome, f_brief, g_ran, g_put, g_ended, b_ops, b_as, b_bs, b_cs, b_size, b_lent, b_need, b_plans, b_keep, b_value, b_fields, b_alive, b_method, b_pc, b_variable, b_loan, b_outs, b_ends, b_todo, b_phase) → (f_brief = 0 ∨ b_loan (6 * (D - 1) + v) ≠ 0) → wpY_give post (g_known, g_made, g_living, f_ups, g_less, g_depth, g_begun, g_given, g_outcome, f_brief, g_ran, g_put, g_ended, b_ops, b_as, b_bs, b_cs, b_size, b_lent, b_need, b_plans, b_keep, b_value, b_fields, b_alive, b_method, b_pc, b_variable, b_loan, b_outs, b_ends, b_todo, b_phase) (nI (6 * (D - 1) + v)) := by
    intro post hp hc
    unfold wpY_give
    dsimp only
    rw [cw]
    refine ⟨vw, nm_e ?_⟩
    by_cases z : f_brief = 0
    · exact br_t z (up_y hM k1 hp)
    · refine br_f z ⟨vw, br_f ?_ (up_y hM k1 hp)⟩
      rcases hc with hc | hc
      · exact absurd hc z
      · exact hc
  have KYt : ∀ post : SY → Prop, post (g_known, g_made, g_living, f_ups, g_less, g_depth, g_begun, b_variable (6 * (D - 1) + v), g_outcome, f_brief, g_ran, g_put, g_ended, b_ops, b_as, b_bs, b_cs, b_size, b_lent, b_need, b_plans, b_keep, b_value, b_fields, b_alive, b_method, b_pc, upd b_variable (6 * (D - 1) + v) 0, b_loan, b_outs, b_ends, b_todo, b_phase) → f_brief ≠ 0 → b_loan (6 * (D - 1) + v) = 0 → wpY_give post (g_known, g_made, g_living, f_ups, g_less, g_depth, g_begun, g_given, g_outcome, f_brief, g_ran, g_put, g_ended, b_ops, b_as, b_bs, b_cs, b_size, b_lent, b_need, b_plans, b_keep, b_value, b_fields, b_alive, b_method, b_pc, b_variable, b_loan, b_outs, b_ends, b_todo, b_phase) (nI (6 * (D - 1) + v)) := by
    intro post hp z z3
    unfold wpY_give
    dsimp only
    rw [cw]
    exact ⟨vw, nm_e (br_f z ⟨vw, br_t z3 ⟨vw, nm_e hp⟩⟩)⟩
  by_cases hc : f_brief ≠ 0 ∧ bt (a_lent (D - 1)) v = false
  · obtain ⟨z, z3⟩ := hc
    have KXe : ∀ K : SX → Prop, K (f_known, nI D, f_brief, f_outCount, f_endCount, f_ups, f_downs, f_steps, f_made, f_alive, f_gift, f_ended, f_stopped, a_length, a_lends, a_ops, a_firsts, a_seconds, a_thirds, a_need, a_loan, a_hands, a_keeps, a_come, a_numbers, a_ints, a_counts, a_fields, a_ending, a_stage, a_fMethod, a_fLine, upd a_held (6 * (D - 1) + v) (-1), upd a_lent (D - 1) (vr_le (a_lent (D - 1)) v 0), a_outs, a_ends) → (f_brief = 0 → wpX_up K (f_known, nI D, f_brief, f_outCount, f_endCount, f_ups, f_downs, f_steps, f_made, f_alive, f_gift, f_ended, f_stopped, a_length, a_lends, a_ops, a_firsts, a_seconds, a_thirds, a_need, a_loan, a_hands, a_keeps, a_come, a_numbers, a_ints, a_counts, a_fields, a_ending, a_stage, a_fMethod, a_fLine, a_held, a_lent, a_outs, a_ends) (a_held (6 * (D - 1) + v))) ∧ (¬ f_brief = 0 → wpX_isLent (fun r => ((r = 0 → wpX_empty K (f_known, nI D, f_brief, f_outCount, f_endCount, f_ups, f_downs, f_steps, f_made, f_alive, f_gift, f_ended, f_stopped, a_length, a_lends, a_ops, a_firsts, a_seconds, a_thirds, a_need, a_loan, a_hands, a_keeps, a_come, a_numbers, a_ints, a_counts, a_fields, a_ending, a_stage, a_fMethod, a_fLine, a_held, a_lent, a_outs, a_ends) (nI v)) ∧ (¬ r = 0 → wpX_up K (f_known, nI D, f_brief, f_outCount, f_endCount, f_ups, f_downs, f_steps, f_made, f_alive, f_gift, f_ended, f_stopped, a_length, a_lends, a_ops, a_firsts, a_seconds, a_thirds, a_need, a_loan, a_hands, a_keeps, a_come, a_numbers, a_ints, a_counts, a_fields, a_ending, a_stage, a_fMethod, a_fLine, a_held, a_lent, a_outs, a_ends) (a_held (6 * (D - 1) + v))))) (f_known, nI D, f_brief, f_outCount, f_endCount, f_ups, f_downs, f_steps, f_made, f_alive, f_gift, f_ended, f_stopped, a_length, a_lends, a_ops, a_firsts, a_seconds, a_thirds, a_need, a_loan, a_hands, a_keeps, a_come, a_numbers, a_ints, a_counts, a_fields, a_ending, a_stage, a_fMethod, a_fLine, a_held, a_lent, a_outs, a_ends) (nI v)) := by
      intro K hK
      refine br_f z (vg_isLent hD1 hD hv ?_)
      rw [z3, if_neg (by decide)]
      exact br_t rfl (ps_emp hD1 hD hv hmk hK)
    have V1 := vr_up (x := -1) (y := 0) (lo := 0) hD1 hv (Or.inl ⟨rfl, rfl⟩) V
    have elo : vr_lo 0 0 = 0 := rfl
    rw [elo] at V1
    by_cases hl : b_loan (6 * (D - 1) + v) = 0
    · rw [tl_uid hl] at V1
      refine ⟨f_ups, a_counts, _, _, _, ?_, V1, Or.inr rfl, fun K hK => KXe K hK, fun post hp => KYt post hp z hl⟩
      refine hp_cg (fun n a b => ?_) H
      have := hp_RC_u1 (gv := 0) (va := b_variable) (lo := b_loan) (D := D) (n := n) (w := 6 * (D - 1) + v) (y := 0) hw
      rw [if_pos hl, if_pos hl, hp_dl_0 a (by omega)] at this
      rw [qv_RCg a (by omega)]
      exact this
    · have hv0 : b_variable (6 * (D - 1) + v) = 0 := Classical.byContradiction (fun q => by
        have := (k2 q).mpr hl
        rw [z3] at this
        exact absurd this (by decide))
      have hx := r3 (r2.mpr hv0)
      rw [tl_uid hx, tl_uid hv0] at V1
      refine ⟨f_ups, a_counts, a_held, upd a_lent (D - 1) (vr_le (a_lent (D - 1)) v 0), b_variable, ?_, ?_, Or.inl rfl, fun K hK => KXe K ?_, fun post hp => KYm post ?_ (Or.inr hl)⟩
      · rw [hv0]; exact H
      · refine ⟨fun w hw => ⟨(V1.1 w hw).1, fun hy => ?_⟩, V1.2⟩
        have := (V1.1 w hw).2 hy
        rw [tl_un (show w ≠ 6 * (D - 1) + v from fun q => hy (by rw [q]; exact hv0))] at this
        exact this
      · rw [tl_uid hx]; exact hK
      · rw [hx, up_u, if_pos tl_m1lt]; exact hp
  · have hc' : f_brief = 0 ∨ bt (a_lent (D - 1)) v = true := by
      by_cases z : f_brief = 0
      · exact Or.inl z
      · refine Or.inr ?_
        cases z3 : bt (a_lent (D - 1)) v
        · exact absurd ⟨z, z3⟩ hc
        · rfl
    refine ⟨up_u f_ups (a_held (6 * (D - 1) + v)), up_c a_counts (a_held (6 * (D - 1) + v)), a_held, a_lent, b_variable, hp_cg (fun n a b => qv_RCg a (by omega)) (up_h k1 hal H), V, Or.inl rfl, fun K hK => br_c (fun _ => up_x hM k1 hK) (fun z => vg_isLent hD1 hD hv ?_), fun post hp => ?_⟩
    · have hb : bt (a_lent (D - 1)) v = true := by
        rcases hc' with h | h
        · exact absurd h z
        · exact h
      rw [if_pos hb]
      exact br_f tl_n1' (up_x hM k1 hK)
    · by_cases q : f_brief = 0 ∨ b_loan (6 * (D - 1) + v) ≠ 0
      · exact KYm post hp q
      · have q1 : f_brief ≠ 0 := fun z => q (Or.inl z)
        have q3 : b_loan (6 * (D - 1) + v) = 0 := Classical.byContradiction (fun z => q (Or.inr z))
        have hv0 : b_variable (6 * (D - 1) + v) = 0 := Classical.byContradiction (fun z => by
          rcases hc' with hc | hc
          · exact q1 hc
          · exact ((k2 z).mp hc) q3)
        have hx := r3 (r2.mpr hv0)
        refine KYt post ?_ q1 q3
        rw [tl_uid hv0]
        rw [hx, up_u, if_pos tl_m1lt] at hp
        exact hp
/-- GIVE -/
theorem op_12 (F : rn_F0 f_brief a_length a_ops a_thirds a_need D M E L S O m i a_numbers a_ints a_counts a_fields a_ending a_stage a_fMethod a_fLine a_held a_lent b_value b_fields b_alive b_variable b_loan b_todo b_phase) (NB : rn_NB f_brief a_length a_need D m i b_variable) (hC : cd_C a_length a_ops a_firsts a_seconds a_thirds b_as b_bs) (hA : an_A a_length a_lends a_ops a_firsts a_seconds a_thirds a_need a_loan a_hands a_keeps a_come b_as b_bs b_need b_plans b_keep) (hi : i < rn_len a_length m) (hS : S < 300) {a : Nat} (ha : a < 6) (ea : a_firsts (16 * m + i) = nI a) (eb : b_as (16 * m + i) = nI a) (eo : a_ops (16 * m + i) = nI 12) : st_O f_known f_brief g_ran a_length a_lends a_ops a_firsts a_seconds a_thirds a_need a_loan a_hands a_keeps a_come b_as b_bs b_need b_plans b_keep D S (fun post => wpX_step post (f_known, nI D, f_brief, nI O, nI E, f_ups, f_downs, nI (S + 1), nI M, nI L, 0, (-1), (-1), a_length, a_lends, a_ops, a_firsts, a_seconds, a_thirds, a_need, a_loan, a_hands, a_keeps, a_come, a_numbers, a_ints, a_counts, a_fields, a_ending, a_stage, a_fMethod, a_fLine, a_held, a_lent, a_outs, a_ends) (nI (16 * m + i)) (nI i)) (fun post => wpY_carryOut post (f_known, nI M, nI L, f_ups, f_downs, nI D, nI (S + 1), 0, (-1), f_brief, g_ran, nI O, nI E, a_ops, b_as, b_bs, a_thirds, a_length, a_lends, b_need, b_plans, b_keep, b_value, b_fields, b_alive, a_fMethod, a_fLine, b_variable, b_loan, a_outs, a_ends, b_todo, b_phase) (nI (6 * (D - 1))) (nI (16 * m + i))) := by
  have hv := st_var ha F NB
  have hvb := st_val ha F NB
  have F' := F
  obtain ⟨hD1, hD6, hMS, hOS, hS3, hm, hi16, eM, eL, hfr, H, V, LS⟩ := F'
  obtain ⟨hL24, hEL, hM⟩ := hp_L24 H
  have hl16 := (cd_len hC hm).1
  have ck : (nI (16 * m + i)).toNatClampNeg = 16 * m + i := nI_clamp (by omega)
  have vk : vp_in (nI (16 * m + i)) 64 := vp_in_nI (by omega) (by omega)
  have LP := rn_lpof hD1 (Or.inr (by rw [eo]; unfold rn_mild; decide)) NB LS
  have hxy := (V.1 (6 * (D - 1) + a) (by omega)).1
  obtain ⟨t, ht, ey⟩ : ∃ t, t ≤ M ∧ b_variable (6 * (D - 1) + a) = nI t := by
    rcases hv with ⟨ex, ey⟩ | ⟨q, t, hq, h1, hM', ex, ey, hn, hal⟩
    · exact ⟨0, by omega, ey⟩
    · exact ⟨t, hM', ey⟩
  obtain ⟨f_ups2, a_counts2, a_held2, a_lent2, b_variable2, H1, V1, hvar, hX1, hY1⟩ := gv_j (f_known := f_known) (f_brief := f_brief) (f_outCount := nI O) (f_endCount := nI E) (f_ups := f_ups) (f_downs := f_downs) (f_steps := nI (S + 1)) (f_made := nI M) (f_alive := nI L) (f_gift := 0) (f_ended := -1) (f_stopped := -1) (a_length := a_length) (a_lends := a_lends) (a_ops := a_ops) (a_firsts := a_firsts) (a_seconds := a_seconds) (a_thirds := a_thirds) (a_need := a_need) (a_loan := a_loan) (a_hands := a_hands) (a_keeps := a_keeps) (a_come := a_come) (a_numbers := a_numbers) (a_ints := a_ints) (a_counts := a_counts) (a_fields := a_fields) (a_ending := a_ending) (a_stage := a_stage) (a_fMethod := a_fMethod) (a_fLine := a_fLine) (a_held := a_held) (a_lent := a_lent) (a_outs := a_outs) (a_ends := a_ends) (g_known := f_known) (g_made := nI M) (g_living := nI L) (g_less := f_downs) (g_depth := nI D) (g_begun := nI (S + 1)) (g_given := 0) (g_outcome := -1) (g_ran := g_ran) (g_put := nI O) (g_ended := nI E) (b_ops := a_ops) (b_as := b_as) (b_bs := b_bs) (b_cs := a_thirds) (b_size := a_length) (b_lent := a_lends) (b_need := b_need) (b_keep := b_keep) (b_method := a_fMethod) (b_pc := a_fLine) (b_outs := a_outs) (b_ends := a_ends) (b_plans := b_plans) hD1 hD6 ha V H hvb
  have LP2 : rn_LP f_brief D b_variable2 b_loan := by
    rcases hvar with e | e
    · rw [e]; exact LP
    · rw [e]; exact rn_lpu1 (by omega) LP
  have K := qv_O (f_known := f_known) (f_downs := f_downs) (a_outs := a_outs) (a_ends := a_ends) (g_ran := g_ran) (a_lends := a_lends) (a_need := a_need) (a_loan := a_loan) (a_hands := a_hands) (a_keeps := a_keeps) (a_come := a_come) (b_need := b_need) (b_plans := b_plans) (b_keep := b_keep) (f_ups := f_ups2) (S := S + 1) (S0 := S) (O := O) (x1 := a_held (6 * (D - 1) + a)) hD1 hD6 (by omega) (by omega) (by omega) (by omega) hfr hC hxy V1 LP2 H1
  refine st_mono (fun post h => ?_) (fun post h => ?_) K
  · refine And.intro vk (nm_r (e' := nI a) (by rw [ck]; exact ea) (And.intro vk (nm_r (e' := nI 12) (by rw [ck]; exact eo) (br_f (by decide) (br_t (by decide) ?_)))))
    unfold wpX_flow
    dsimp only
    rw [ck, eo]
    refine ⟨vk, br_f (by decide) ⟨vk, br_f (by decide) (vg_var hD1 hD6 ha ?_)⟩⟩
    exact hX1 _ h
  · refine sy_in (a := a) (o := 12) hD1 hD6 (by omega) ha eo eb (by decide) (by decide) ?_
    rw [ey]
    refine sy_ok (t := t) (by omega) hM hD6 ht (by omega) (fun z => by omega) (fun z => by omega) (fun z => by omega) (fun z => by omega) (sy_166 (by decide) (br_t rfl (br_f (by decide) (br_t rfl (br_t rfl ?_)))))
    exact hY1 _ h
end
end
section
section
variable {f_known f_depth f_brief f_outCount f_endCount f_ups f_downs f_steps f_made f_alive f_gift f_ended f_stopped : Int32} {a_length a_lends a_ops a_firsts a_seconds a_thirds a_need a_loan a_hands a_keeps a_come a_numbers a_ints a_counts a_fields a_ending a_stage a_fMethod a_fLine a_held a_lent a_outs a_ends : Nat → Int32}
variable {g_known g_made g_living g_counted g_less g_depth g_begun g_given g_outcome g_isShort g_ran g_put g_ended : Int32} {b_ops b_as b_bs b_cs b_size b_lent b_need b_plans b_keep b_value b_fields b_alive b_method b_pc b_variable b_loan b_outs b_ends b_todo b_phase : Nat → Int32}
variable {D M E L S O m i : Nat} {rc : Nat → Nat}
theorem cd_o {k : Nat} (hC : cd_C a_length a_ops a_firsts a_seconds a_thirds b_as b_bs) (hk : k < 64) : ∃ o : Nat, o < 14 ∧ a_ops k = nI o := by
  obtain ⟨o, ho, eo, _⟩ := hC.2 k hk
  exact ⟨o, ho, eo⟩
theorem cd_b {k o : Nat} (hC : cd_C a_length a_ops a_firsts a_seconds a_thirds b_as b_bs) (hk : k < 64) (eo : a_ops k = nI o) (ho : o < 14) (h : o = 1 ∨ o = 3 ∨ o = 4 ∨ o = 11) : ∃ b : Nat, b < 6 ∧ a_seconds k = nI b ∧ b_bs k = nI b := by
  obtain ⟨o', ho', eo', _, h1, _⟩ := hC.2 k hk
  have : o = o' := tl_inj (eo.symm.trans eo') (by omega) (by omega)
  subst this
  exact h1 h
theorem cd_c3 {k o : Nat} (hC : cd_C a_length a_ops a_firsts a_seconds a_thirds b_as b_bs) (hk : k < 64) (eo : a_ops k = nI o) (ho : o < 14) (h : o = 3 ∨ o = 4) : ∃ b : Nat, b < 3 ∧ a_thirds k = nI b := by
  obtain ⟨o', ho', eo', _, _, h1, _⟩ := hC.2 k hk
  have : o = o' := tl_inj (eo.symm.trans eo') (by omega) (by omega)
  subst this
  exact h1 h
theorem cd_c16 {k o : Nat} (hC : cd_C a_length a_ops a_firsts a_seconds a_thirds b_as b_bs) (hk : k < 64) (eo : a_ops k = nI o) (ho : o < 14) (h : o = 9 ∨ o = 10) : ∃ b : Nat, b < 16 ∧ a_thirds k = nI b := by
  obtain ⟨o', ho', eo', _, _, _, h1, _⟩ := hC.2 k hk
  have : o = o' := tl_inj (eo.symm.trans eo') (by omega) (by omega)
  subst this
  exact h1 h
theorem cd_c4 {k : Nat} (hC : cd_C a_length a_ops a_firsts a_seconds a_thirds b_as b_bs) (hk : k < 64) (eo : a_ops k = nI 11) : ∃ b : Nat, b < 4 ∧ a_thirds k = nI b := by
  obtain ⟨o', ho', eo', _, _, _, _, h1⟩ := hC.2 k hk
  have : 11 = o' := tl_inj (eo.symm.trans eo') (by omega) (by omega)
  exact h1 this.symm
/-- a new call's relation -/
theorem cl_F0 {c : Nat} {x y lo : Int32} {b_variable2 a_counts2 a_held2 a_lent2 : Nat → Int32} (F : rn_F0 f_brief a_length a_ops a_thirds a_need D M E L S O m i a_numbers a_ints a_counts a_fields a_ending a_stage a_fMethod a_fLine a_held a_lent b_value b_fields b_alive b_variable b_loan b_todo b_phase) (hS : S < 300) (hD : D < 6) (hc : c < 4) (hi : i < rn_len a_length m) (eo : a_ops (16 * m + i) = nI 11) (hlo : lo = 0 ∨ lo = 1)
    (hxy : hp_RW M a_numbers b_alive x y) (V : vr_V D M a_numbers b_alive a_held2 a_lent2 b_variable2 b_loan) (LP : rn_LP f_brief D b_variable2 b_loan) (hpr : lo ≠ 0 → y ≠ 0 → f_brief ≠ 0 ∧ ∃ w', w' < 6 * D ∧ b_loan w' = 0 ∧ b_variable2 w' = y)
    (H1 : HR M E L 0 (fun n => hp_RC 0 b_variable2 b_loan D n + (if lo = 0 then hp_dl y n else 0)) a_numbers a_ints a_counts2 a_fields a_ending a_stage b_value b_fields b_alive b_todo b_phase) :
    rn_F0 f_brief a_length a_ops a_thirds a_need (D + 1) M E L (S + 1) O c 0 a_numbers a_ints a_counts2 a_fields a_ending a_stage (upd a_fMethod D (nI c)) (upd a_fLine D 0) (en_h a_held2 D x (-1)) (upd a_lent2 D lo) b_value b_fields b_alive (en_h b_variable2 D y 0) (en_h b_loan D (vr_lo lo y) 0) b_todo b_phase := by
  obtain ⟨hD1, hD6, hMS, hOS, hS3, hm, hi16, eM, eL, hfr, H, _, LS⟩ := F
  refine ⟨by omega, by omega, by omega, by omega, by omega, hc, by omega, tl_us, tl_us, fun d hd => ?_, hp_cg (fun n h1 h2 => en_RC h1 (by omega)) H1, en_V hlo hxy V, rn_lpls (en_LP hpr LP)⟩
  by_cases z : d = D - 1
  · refine ⟨m, i, hm, hi, ?_, ?_, eo⟩
    · rw [tl_un (by omega), z]; exact eM
    · rw [tl_un (by omega), z]; exact eL
  · obtain ⟨m2, i2, k1, k2, k3, k4, k5⟩ := hfr d (by omega)
    exact ⟨m2, i2, k1, k2, by rw [tl_un (by omega)]; exact k3, by rw [tl_un (by omega)]; exact k4, k5⟩
/-- CALL -/
theorem op_11 (F : rn_F0 f_brief a_length a_ops a_thirds a_need D M E L S O m i a_numbers a_ints a_counts a_fields a_ending a_stage a_fMethod a_fLine a_held a_lent b_value b_fields b_alive b_variable b_loan b_todo b_phase) (NB : rn_NB f_brief a_length a_need D m i b_variable) (hC : cd_C a_length a_ops a_firsts a_seconds a_thirds b_as b_bs) (hA : an_A a_length a_lends a_ops a_firsts a_seconds a_thirds a_need a_loan a_hands a_keeps a_come b_as b_bs b_need b_plans b_keep) (hi : i < rn_len a_length m) (hS : S < 300) {a : Nat} (ha : a < 6) (ea : a_firsts (16 * m + i) = nI a) (eb : b_as (16 * m + i) = nI a) {b : Nat} (hb : b < 6) (es : a_seconds (16 * m + i) = nI b) (et : b_bs (16 * m + i) = nI b) {c : Nat} (hc : c < 4) (ec : a_thirds (16 * m + i) = nI c) (eo : a_ops (16 * m + i) = nI 11) : st_O f_known f_brief g_ran a_length a_lends a_ops a_firsts a_seconds a_thirds a_need a_loan a_hands a_keeps a_come b_as b_bs b_need b_plans b_keep D S (fun post => wpX_step post (f_known, nI D, f_brief, nI O, nI E, f_ups, f_downs, nI (S + 1), nI M, nI L, 0, (-1), (-1), a_length, a_lends, a_ops, a_firsts, a_seconds, a_thirds, a_need, a_loan, a_hands, a_keeps, a_come, a_numbers, a_ints, a_counts, a_fields, a_ending, a_stage, a_fMethod, a_fLine, a_held, a_lent, a_outs, a_ends) (nI (16 * m + i)) (nI i)) (fun post => wpY_carryOut post (f_known, nI M, nI L, f_ups, f_downs, nI D, nI (S + 1), 0, (-1), f_brief, g_ran, nI O, nI E, a_ops, b_as, b_bs, a_thirds, a_length, a_lends, b_need, b_plans, b_keep, b_value, b_fields, b_alive, a_fMethod, a_fLine, b_variable, b_loan, a_outs, a_ends, b_todo, b_phase) (nI (6 * (D - 1))) (nI (16 * m + i))) := by
  have hv := st_var ha F NB
  have hvb := st_val hb F NB
  have F' := F
  obtain ⟨hD1, hD6, hMS, hOS, hS3, hm, hi16, eM, eL, hfr, H, V, LS⟩ := F'
  obtain ⟨hL24, hEL, hM⟩ := hp_L24 H
  have hl16 := (cd_len hC hm).1
  have ck : (nI (16 * m + i)).toNatClampNeg = 16 * m + i := nI_clamp (by omega)
  have vk : vp_in (nI (16 * m + i)) 64 := vp_in_nI (by omega) (by omega)
  have cc : (nI c).toNatClampNeg = c := nI_clamp (by omega)
  have vc : vp_in (nI c) 4 := vp_in_nI (by omega) (by omega)
  have cwb : (nI (6 * (D - 1) + b)).toNatClampNeg = 6 * (D - 1) + b := nI_clamp (by omega)
  have vwb : vp_in (nI (6 * (D - 1) + b)) 36 := vp_in_nI (by omega) (by omega)
  have LP := rn_lpof hD1 (Or.inr (by rw [eo]; unfold rn_mild; decide)) NB LS
  have hpl := (op_pl hA hm hi).1
  have hxy := (V.1 (6 * (D - 1) + b) (by omega)).1
  obtain ⟨t, ht, ey⟩ : ∃ t, t ≤ M ∧ b_variable (6 * (D - 1) + a) = nI t := by
    rcases hv with ⟨ex, ey⟩ | ⟨q, t, hq, h1, hM', ex, ey, hn, hal⟩
    · exact ⟨0, by omega, ey⟩
    · exact ⟨t, hM', ey⟩
  -- X's front
  have KX : ∀ post : SX → Prop, wpX_call post (f_known, nI D, f_brief, nI O, nI E, f_ups, f_downs, nI (S + 1), nI M, nI L, 0, (-1), (-1), a_length, a_lends, a_ops, a_firsts, a_seconds, a_thirds, a_need, a_loan, a_hands, a_keeps, a_come, a_numbers, a_ints, a_counts, a_fields, a_ending, a_stage, a_fMethod, a_fLine, a_held, a_lent, a_outs, a_ends) (nI (16 * m + i)) (nI b) (nI c) → wpX_step post (f_known, nI D, f_brief, nI O, nI E, f_ups, f_downs, nI (S + 1), nI M, nI L, 0, (-1), (-1), a_length, a_lends, a_ops, a_firsts, a_seconds, a_thirds, a_need, a_loan, a_hands, a_keeps, a_come, a_numbers, a_ints, a_counts, a_fields, a_ending, a_stage, a_fMethod, a_fLine, a_held, a_lent, a_outs, a_ends) (nI (16 * m + i)) (nI i) := by
    intro post h
    refine And.intro vk (nm_r (e' := nI a) (by rw [ck]; exact ea) (And.intro vk (nm_r (e' := nI 11) (by rw [ck]; exact eo) (br_f (by decide) (br_t (by decide) ?_)))))
    unfold wpX_flow
    dsimp only
    rw [ck, eo, es, ec]
    exact ⟨vk, br_f (by decide) ⟨vk, br_t rfl ⟨vk, vk, h⟩⟩⟩
  by_cases hfail : D = 6 ∨ a_length c = 0
  · have F1 : rn_F0 f_brief a_length a_ops a_thirds a_need D M E L (S + 1) O m i a_numbers a_ints a_counts a_fields a_ending a_stage a_fMethod a_fLine a_held a_lent b_value b_fields b_alive b_variable b_loan b_todo b_phase := ⟨hD1, hD6, by omega, by omega, by omega, hm, hi16, eM, eL, hfr, H, V, LS⟩
    refine Or.inr (Or.inl ⟨1, D, M, E, L, S + 1, O, m, i, f_ups, f_downs, a_numbers, a_ints, a_counts, a_fields, a_ending, a_stage, a_fMethod, a_fLine, a_held, a_lent, a_outs, a_ends, b_value, b_fields, b_alive, b_variable, b_loan, b_todo, b_phase, Or.inl rfl, F1, fun post hp => KX post ?_, fun post hp => ?_⟩)
    · by_cases z : D = 6
      · exact br_t (by rw [z]; rfl) hp
      · have hz2 : a_length c = 0 := by
          rcases hfail with h | h
          · exact absurd h z
          · exact h
        refine br_f (fun w => z (tl_inj (b := 6) w (by omega) (by omega))) ⟨vc, br_t ?_ hp⟩
        rw [cc]; exact hz2
    · refine sy_in (a := a) (o := 11) hD1 hD6 (by omega) ha eo eb (by decide) (by decide) ?_
      rw [ey, ec]
      refine br_f (by decide) (br_f (by decide) (br_f (by decide) (br_f (by decide) (br_t rfl ?_))))
      by_cases z : D = 6
      · exact br_t (by rw [z]; rfl) (sy_129 (t := t) (by omega) hM hD6 ht (by decide) hp)
      · have hz2 : a_length c = 0 := by
          rcases hfail with h | h
          · exact absurd h z
          · exact h
        refine br_f (fun w => z (tl_inj (b := 6) w (by omega) (by omega))) ⟨vc, br_t ?_ (sy_129 (t := t) (by omega) hM hD6 ht (by decide) hp)⟩
        rw [cc]; exact hz2
  · have hD5 : D ≠ 6 := fun z => hfail (Or.inl z)
    have hlen : ¬ a_length c = 0 := fun z => hfail (Or.inr z)
    have hD6' : ¬ nI D = 6 := fun w => hD5 (tl_inj (b := 6) w (by omega) (by omega))
    have KY : ∀ post : SY → Prop, wpY_call post (f_known, nI M, nI L, f_ups, f_downs, nI D, nI (S + 1), 0, (-1), f_brief, g_ran, nI O, nI E, a_ops, b_as, b_bs, a_thirds, a_length, a_lends, b_need, b_plans, b_keep, b_value, b_fields, b_alive, a_fMethod, a_fLine, b_variable, b_loan, a_outs, a_ends, b_todo, b_phase) (nI (16 * m + i)) (nI (6 * (D - 1) + b)) (nI c) → wpY_carryOut post (f_known, nI M, nI L, f_ups, f_downs, nI D, nI (S + 1), 0, (-1), f_brief, g_ran, nI O, nI E, a_ops, b_as, b_bs, a_thirds, a_length, a_lends, b_need, b_plans, b_keep, b_value, b_fields, b_alive, a_fMethod, a_fLine, b_variable, b_loan, a_outs, a_ends, b_todo, b_phase) (nI (6 * (D - 1))) (nI (16 * m + i)) := by
      intro post h
      refine sy_in (a := a) (o := 11) hD1 hD6 (by omega) ha eo eb (by decide) (by decide) ?_
      rw [ey, et, nI_add]
      refine sy_ok (t := t) (by omega) hM hD6 ht (by omega) (fun z => by omega) (fun z => by omega) (fun z => by omega) (fun _ => ⟨hD5, c, hc, ec, hlen⟩) (sy_166 (by decide) (br_t rfl (br_t rfl ?_)))
      rw [ec]
      exact h
    by_cases hlo : f_brief ≠ 0 ∧ a_lends c ≠ 0
    · obtain ⟨hbr, hln⟩ := hlo
      have F1 := cl_F0 (c := c) (lo := 1) F hS (by omega) hc hi eo (Or.inr rfl) hxy V LP (fun _ hy => ⟨hbr, by
        by_cases q : b_loan (6 * (D - 1) + b) = 0
        · exact ⟨6 * (D - 1) + b, by omega, q, rfl⟩
        · obtain ⟨_, w', k1, k2, k3⟩ := LP (6 * (D - 1) + b) (by omega) q hy
          exact ⟨w', by omega, k2, k3⟩⟩) (hp_cg (fun n h1 h2 => by rw [if_neg tl_n1', Nat.add_zero]) H)
      refine Or.inl ⟨D + 1, M, E, L, S + 1, O, c, 0, f_ups, f_downs, a_numbers, a_ints, a_counts, a_fields, a_ending, a_stage, upd a_fMethod D (nI c), upd a_fLine D 0, en_h a_held D (a_held (6 * (D - 1) + b)) (-1), upd a_lent D 1, a_outs, a_ends, b_value, b_fields, b_alive, en_h b_variable D (b_variable (6 * (D - 1) + b)) 0, en_h b_loan D (vr_lo 1 (b_variable (6 * (D - 1) + b))) 0, b_todo, b_phase, F1, by omega, fun u hdr post hp => KX post ?_, fun post hp => KY post ?_⟩
      · refine br_f hD6' ⟨vc, ?_⟩
        rw [cc]
        refine br_f hlen (br_f hbr ⟨vc, br_f hln (vg_var hD1 hD6 hb (br_f tl_n1' ?_))⟩)
        exact en_x (by omega) hc hxy (Or.inr rfl) hdr hp
      · refine br_f hbr ⟨vc, ?_⟩
        rw [cc]
        refine br_f hln (br_f tl_n1' ⟨vwb, ?_⟩)
        rw [cwb]
        exact en_y (by omega) hM hxy hp
    · obtain ⟨f_ups2, a_counts2, a_held2, a_lent2, b_variable2, H1, V1, hvar, hX1, hY1⟩ := ps_j (f_known := f_known) (f_brief := f_brief) (f_outCount := nI O) (f_endCount := nI E) (f_ups := f_ups) (f_downs := f_downs) (f_steps := nI (S + 1)) (f_made := nI M) (f_alive := nI L) (f_gift := 0) (f_ended := -1) (f_stopped := -1) (a_length := a_length) (a_lends := a_lends) (a_ops := a_ops) (a_firsts := a_firsts) (a_seconds := a_seconds) (a_thirds := a_thirds) (a_need := a_need) (a_loan := a_loan) (a_hands := a_hands) (a_keeps := a_keeps) (a_come := a_come) (a_numbers := a_numbers) (a_ints := a_ints) (a_counts := a_counts) (a_fields := a_fields) (a_ending := a_ending) (a_stage := a_stage) (a_fMethod := a_fMethod) (a_fLine := a_fLine) (a_held := a_held) (a_lent := a_lent) (a_outs := a_outs) (a_ends := a_ends) (g_known := f_known) (g_made := nI M) (g_living := nI L) (g_less := f_downs) (g_depth := nI D) (g_begun := nI (S + 1)) (g_given := 0) (g_outcome := -1) (g_ran := g_ran) (g_put := nI O) (g_ended := nI E) (b_ops := a_ops) (b_as := b_as) (b_bs := b_bs) (b_cs := a_thirds) (b_size := a_length) (b_lent := a_lends) (b_need := b_need) (b_keep := b_keep) (b_method := a_fMethod) (b_pc := a_fLine) (b_outs := a_outs) (b_ends := a_ends) (k := 16 * m + i) hD1 hD6 hb (by omega) hpl V H hvb
      have LP2 : rn_LP f_brief D b_variable2 b_loan := by
        rcases hvar with e | e
        · rw [e]; exact LP
        · rw [e]; exact rn_lpu1 (by omega) LP
      have F1 := cl_F0 (c := c) (lo := 0) F hS (by omega) hc hi eo (Or.inl rfl) hxy V1 LP2 (fun z => absurd rfl z) (hp_cg (fun n h1 h2 => by rw [if_pos rfl]) H1)
      refine Or.inl ⟨D + 1, M, E, L, S + 1, O, c, 0, f_ups2, f_downs, a_numbers, a_ints, a_counts2, a_fields, a_ending, a_stage, upd a_fMethod D (nI c), upd a_fLine D 0, en_h a_held2 D (a_held (6 * (D - 1) + b)) (-1), upd a_lent2 D 0, a_outs, a_ends, b_value, b_fields, b_alive, en_h b_variable2 D (b_variable (6 * (D - 1) + b)) 0, en_h b_loan D (vr_lo 0 (b_variable (6 * (D - 1) + b))) 0, b_todo, b_phase, F1, by omega, fun u hdr post hp => KX post ?_, fun post hp => KY post ?_⟩
      · have K : wX_call_45 post (nI (16 * m + i)) (nI b) (nI c) 0 f_known (nI D) f_brief (nI O) (nI E) f_ups f_downs (nI (S + 1)) (nI M) (nI L) 0 (-1) (-1) a_length a_lends a_ops a_firsts a_seconds a_thirds a_need a_loan a_hands a_keeps a_come a_numbers a_ints a_counts a_fields a_ending a_stage a_fMethod a_fLine a_held a_lent a_outs a_ends := by
          unfold wX_call_45
          refine vg_var hD1 hD6 hb (br_t rfl (hX1 _ ?_))
          exact en_x (by omega) hc hxy (Or.inl rfl) hdr hp
        refine br_f hD6' ⟨vc, ?_⟩
        rw [cc]
        refine br_f hlen ?_
        by_cases z : f_brief = 0
        · exact br_t z K
        · by_cases z2 : a_lends c = 0
          · exact br_f z ⟨vc, br_t z2 K⟩
          · exact absurd ⟨z, z2⟩ hlo
      · have K : wY_call_21 post (nI (16 * m + i)) (nI (6 * (D - 1) + b)) (nI c) 0 f_known (nI M) (nI L) f_ups f_downs (nI D) (nI (S + 1)) 0 (-1) f_brief g_ran (nI O) (nI E) a_ops b_as b_bs a_thirds a_length a_lends b_need b_plans b_keep b_value b_fields b_alive a_fMethod a_fLine b_variable b_loan a_outs a_ends b_todo b_phase := br_t rfl (hY1 _ (en_y (by omega) hM hxy hp))
        by_cases z : f_brief = 0
        · exact br_t z K
        · by_cases z2 : a_lends c = 0
          · refine br_f z ⟨vc, br_t ?_ K⟩
            rw [cc]; exact z2
          · exact absurd ⟨z, z2⟩ hlo
/-- a step -/
theorem st_step (F : rn_F0 f_brief a_length a_ops a_thirds a_need D M E L S O m i a_numbers a_ints a_counts a_fields a_ending a_stage a_fMethod a_fLine a_held a_lent b_value b_fields b_alive b_variable b_loan b_todo b_phase) (NB : rn_NB f_brief a_length a_need D m i b_variable) (hC : cd_C a_length a_ops a_firsts a_seconds a_thirds b_as b_bs) (hA : an_A a_length a_lends a_ops a_firsts a_seconds a_thirds a_need a_loan a_hands a_keeps a_come b_as b_bs b_need b_plans b_keep) (hi : i < rn_len a_length m) (hS : S < 300) : st_O f_known f_brief g_ran a_length a_lends a_ops a_firsts a_seconds a_thirds a_need a_loan a_hands a_keeps a_come b_as b_bs b_need b_plans b_keep D S (fun post => wpX_step post (f_known, nI D, f_brief, nI O, nI E, f_ups, f_downs, nI (S + 1), nI M, nI L, 0, (-1), (-1), a_length, a_lends, a_ops, a_firsts, a_seconds, a_thirds, a_need, a_loan, a_hands, a_keeps, a_come, a_numbers, a_ints, a_counts, a_fields, a_ending, a_stage, a_fMethod, a_fLine, a_held, a_lent, a_outs, a_ends) (nI (16 * m + i)) (nI i)) (fun post => wpY_carryOut post (f_known, nI M, nI L, f_ups, f_downs, nI D, nI (S + 1), 0, (-1), f_brief, g_ran, nI O, nI E, a_ops, b_as, b_bs, a_thirds, a_length, a_lends, b_need, b_plans, b_keep, b_value, b_fields, b_alive, a_fMethod, a_fLine, b_variable, b_loan, a_outs, a_ends, b_todo, b_phase) (nI (6 * (D - 1))) (nI (16 * m + i))) := by
  have hm : m < 4 := F.2.2.2.2.2.1
  have hl16 := (cd_len hC hm).1
  have hk : 16 * m + i < 64 := by omega
  obtain ⟨o, ho, eo⟩ := cd_o hC hk
  have hcase : o = 0 ∨ o = 1 ∨ o = 2 ∨ o = 3 ∨ o = 4 ∨ o = 5 ∨ o = 6 ∨ o = 7 ∨ o = 8 ∨ o = 9 ∨ o = 10 ∨ o = 11 ∨ o = 12 ∨ o = 13 := by omega
  rcases hcase with rfl | rfl | rfl | rfl | rfl | rfl | rfl | rfl | rfl | rfl | rfl | rfl | rfl | rfl
  · obtain ⟨a, ha, ea, eb⟩ := cd_a hC hk (by rw [eo]; decide) (by rw [eo]; decide)
    exact op_0 F NB hC hA hi hS ha ea eb eo
  · obtain ⟨a, ha, ea, eb⟩ := cd_a hC hk (by rw [eo]; decide) (by rw [eo]; decide)
    obtain ⟨b, hb, es, et⟩ := cd_b hC hk eo ho (by omega)
    exact op_1 F NB hC hA hi hS ha ea eb hb es et eo
  · obtain ⟨a, ha, ea, eb⟩ := cd_a hC hk (by rw [eo]; decide) (by rw [eo]; decide)
    exact op_2 F NB hC hA hi hS ha ea eb eo
  · obtain ⟨a, ha, ea, eb⟩ := cd_a hC hk (by rw [eo]; decide) (by rw [eo]; decide)
    obtain ⟨b, hb, es, et⟩ := cd_b hC hk eo ho (by omega)
    obtain ⟨c, hc, ec⟩ := cd_c3 hC hk eo ho (by omega)
    exact op_3 F NB hC hA hi hS ha ea eb hb es et hc ec eo
  · obtain ⟨a, ha, ea, eb⟩ := cd_a hC hk (by rw [eo]; decide) (by rw [eo]; decide)
    obtain ⟨b, hb, es, et⟩ := cd_b hC hk eo ho (by omega)
    obtain ⟨c, hc, ec⟩ := cd_c3 hC hk eo ho (by omega)
    exact op_4 F NB hC hA hi hS ha ea eb hb es et hc ec eo
  · obtain ⟨a, ha, ea, eb⟩ := cd_a hC hk (by rw [eo]; decide) (by rw [eo]; decide)
    exact op_5 F NB hC hA hi hS ha ea eb eo
  · obtain ⟨a, ha, ea, eb⟩ := cd_a hC hk (by rw [eo]; decide) (by rw [eo]; decide)
    exact op_6 F NB hC hA hi hS ha ea eb eo
  · obtain ⟨a, ha, ea, eb⟩ := cd_a hC hk (by rw [eo]; decide) (by rw [eo]; decide)
    exact op_7 F NB hC hA hi hS ha ea eb eo
  · obtain ⟨a, ha, ea, eb⟩ := cd_a hC hk (by rw [eo]; decide) (by rw [eo]; decide)
    exact op_8 F NB hC hA hi hS ha ea eb eo
  · obtain ⟨a, ha, ea, eb⟩ := cd_a hC hk (by rw [eo]; decide) (by rw [eo]; decide)
    obtain ⟨c, hc, ec⟩ := cd_c16 hC hk eo ho (by omega)
    exact op_9 F NB hC hA hi hS ha ea eb hc ec eo
  · obtain ⟨c, hc, ec⟩ := cd_c16 hC hk eo ho (by omega)
    exact op_10 F NB hC hA hi hS hc ec eo
  · obtain ⟨a, ha, ea, eb⟩ := cd_a hC hk (by rw [eo]; decide) (by rw [eo]; decide)
    obtain ⟨b, hb, es, et⟩ := cd_b hC hk eo ho (by omega)
    obtain ⟨c, hc, ec⟩ := cd_c4 hC hk eo
    exact op_11 F NB hC hA hi hS ha ea eb hb es et hc ec eo
  · obtain ⟨a, ha, ea, eb⟩ := cd_a hC hk (by rw [eo]; decide) (by rw [eo]; decide)
    exact op_12 F NB hC hA hi hS ha ea eb eo
  · exact op_13 F NB hC hA hi hS eo
/-- one round of the runs -/
theorem st_next (F : rn_F0 f_brief a_length a_ops a_thirds a_need D M E L S O m i a_numbers a_ints a_counts a_fields a_ending a_stage a_fMethod a_fLine a_held a_lent b_value b_fields b_alive b_variable b_loan b_todo b_phase) (NB : rn_NB f_brief a_length a_need D m i b_variable) (hC : cd_C a_length a_ops a_firsts a_seconds a_thirds b_as b_bs) (hA : an_A a_length a_lends a_ops a_firsts a_seconds a_thirds a_need a_loan a_hands a_keeps a_come b_as b_bs b_need b_plans b_keep) :
    st_O f_known f_brief g_ran a_length a_lends a_ops a_firsts a_seconds a_thirds a_need a_loan a_hands a_keeps a_come b_as b_bs b_need b_plans b_keep D S (fun post => wpX_next post (f_known, nI D, f_brief, nI O, nI E, f_ups, f_downs, nI S, nI M, nI L, 0, (-1), (-1), a_length, a_lends, a_ops, a_firsts, a_seconds, a_thirds, a_need, a_loan, a_hands, a_keeps, a_come, a_numbers, a_ints, a_counts, a_fields, a_ending, a_stage, a_fMethod, a_fLine, a_held, a_lent, a_outs, a_ends)) (fun post => wY_step_94 post (nI (D - 1)) (nI m) (nI i) f_known (nI M) (nI L) f_ups f_downs (nI D) (nI S) 0 (-1) f_brief g_ran (nI O) (nI E) a_ops b_as b_bs a_thirds a_length a_lends b_need b_plans b_keep b_value b_fields b_alive a_fMethod a_fLine b_variable b_loan a_outs a_ends b_todo b_phase) := by
  have F' := F
  obtain ⟨hD1, hD6, hMS, hOS, hS3, hm, hi16, eM, eL, hfr, H, V, LS⟩ := F'
  have hl := cd_len hC hm
  have ed : nI D - 1 = nI (D - 1) := tl_pred hD1
  have cd : (nI (D - 1)).toNatClampNeg = D - 1 := nI_clamp (by omega)
  have vd : vp_in (nI (D - 1)) 6 := vp_in_nI (by omega) (by omega)
  have cm : (nI m).toNatClampNeg = m := nI_clamp (by omega)
  have vm : vp_in (nI m) 4 := vp_in_nI (by omega) (by omega)
  have KX : ∀ post : SX → Prop, ((nI i < a_length m → ((nI S = 300 → post (f_known, nI D, f_brief, nI O, nI E, f_ups, f_downs, nI S, nI M, nI L, 0, 2, (-1), a_length, a_lends, a_ops, a_firsts, a_seconds, a_thirds, a_need, a_loan, a_hands, a_keeps, a_come, a_numbers, a_ints, a_counts, a_fields, a_ending, a_stage, a_fMethod, a_fLine, a_held, a_lent, a_outs, a_ends)) ∧ (¬ nI S = 300 → wpX_step post (f_known, nI D, f_brief, nI O, nI E, f_ups, f_downs, nI (S + 1), nI M, nI L, 0, (-1), (-1), a_length, a_lends, a_ops, a_firsts, a_seconds, a_thirds, a_need, a_loan, a_hands, a_keeps, a_come, a_numbers, a_ints, a_counts, a_fields, a_ending, a_stage, a_fMethod, a_fLine, a_held, a_lent, a_outs, a_ends) (nI (16 * m + i)) (nI i)))) ∧ (¬ nI i < a_length m → wpX_leave post (f_known, nI D, f_brief, nI O, nI E, f_ups, f_downs, nI S, nI M, nI L, 0, (-1), (-1), a_length, a_lends, a_ops, a_firsts, a_seconds, a_thirds, a_need, a_loan, a_hands, a_keeps, a_come, a_numbers, a_ints, a_counts, a_fields, a_ending, a_stage, a_fMethod, a_fLine, a_held, a_lent, a_outs, a_ends) (-1))) → wpX_next post (f_known, nI D, f_brief, nI O, nI E, f_ups, f_downs, nI S, nI M, nI L, 0, (-1), (-1), a_length, a_lends, a_ops, a_firsts, a_seconds, a_thirds, a_need, a_loan, a_hands, a_keeps, a_come, a_numbers, a_ints, a_counts, a_fields, a_ending, a_stage, a_fMethod, a_fLine, a_held, a_lent, a_outs, a_ends) := by
    intro post h
    unfold wpX_next
    dsimp only
    rw [ed, cd]
    refine ⟨vd, nm_r eM ⟨vd, nm_r eL ⟨vm, ?_⟩⟩⟩
    rw [cm, tl_16]
    exact ⟨fun z => ⟨(h.1 z).1, fun z2 => nm_r (nI_1 S) ((h.1 z).2 z2)⟩, h.2⟩
  have KY : ∀ post : SY → Prop, ((nI i < a_length m → ((nI S = 300 → post (f_known, nI M, nI L, f_ups, f_downs, nI D, nI S, 0, 2, f_brief, g_ran, nI O, nI E, a_ops, b_as, b_bs, a_thirds, a_length, a_lends, b_need, b_plans, b_keep, b_value, b_fields, b_alive, a_fMethod, a_fLine, b_variable, b_loan, a_outs, a_ends, b_todo, b_phase)) ∧ (¬ nI S = 300 → wpY_carryOut post (f_known, nI M, nI L, f_ups, f_downs, nI D, nI (S + 1), 0, (-1), f_brief, g_ran, nI O, nI E, a_ops, b_as, b_bs, a_thirds, a_length, a_lends, b_need, b_plans, b_keep, b_value, b_fields, b_alive, a_fMethod, a_fLine, b_variable, b_loan, a_outs, a_ends, b_todo, b_phase) (nI (6 * (D - 1))) (nI (16 * m + i))))) ∧ (¬ nI i < a_length m → wpY_leave post (f_known, nI M, nI L, f_ups, f_downs, nI D, nI S, 0, (-1), f_brief, g_ran, nI O, nI E, a_ops, b_as, b_bs, a_thirds, a_length, a_lends, b_need, b_plans, b_keep, b_value, b_fields, b_alive, a_fMethod, a_fLine, b_variable, b_loan, a_outs, a_ends, b_todo, b_phase))) → wY_step_94 post (nI (D - 1)) (nI m) (nI i) f_known (nI M) (nI L) f_ups f_downs (nI D) (nI S) 0 (-1) f_brief g_ran (nI O) (nI E) a_ops b_as b_bs a_thirds a_length a_lends b_need b_plans b_keep b_value b_fields b_alive a_fMethod a_fLine b_variable b_loan a_outs a_ends b_todo b_phase := by
    intro post h
    unfold wY_step_94
    rw [cm, tl_16, tl_6a]
    exact ⟨vm, ⟨fun z => ⟨(h.1 z).1, fun z2 => nm_r (nI_1 S) ((h.1 z).2 z2)⟩, h.2⟩⟩
  by_cases hi : i < rn_len a_length m
  · have hlt : nI i < a_length m := by rw [hl.2]; exact nI_lt hi (by omega)
    by_cases hS : S = 300
    · subst hS
      exact Or.inr (Or.inl ⟨2, D, M, E, L, 300, O, m, i, f_ups, f_downs, a_numbers, a_ints, a_counts, a_fields, a_ending, a_stage, a_fMethod, a_fLine, a_held, a_lent, a_outs, a_ends, b_value, b_fields, b_alive, b_variable, b_loan, b_todo, b_phase, Or.inr rfl, F, fun post hp => KX post (br_t hlt (br_t rfl hp)), fun post hp => KY post (br_t hlt (br_t rfl hp))⟩)
    · have hS' : ¬ nI S = 300 := fun z => hS (tl_inj (b := 300) z (by omega) (by omega))
      exact st_mono (fun post h => KX post (br_t hlt (br_f hS' h))) (fun post h => KY post (br_t hlt (br_f hS' h))) (st_step F NB hC hA hi (by omega))
  · have hlt : ¬ nI i < a_length m := by rw [hl.2]; exact nI_nlt (by omega) (by omega)
    have LP := rn_lpof hD1 (Or.inl hi) NB LS
    have K := qv_O (f_known := f_known) (f_ups := f_ups) (f_downs := f_downs) (a_outs := a_outs) (a_ends := a_ends) (g_ran := g_ran) (a_lends := a_lends) (a_need := a_need) (a_loan := a_loan) (a_hands := a_hands) (a_keeps := a_keeps) (a_come := a_come) (b_need := b_need) (b_plans := b_plans) (b_keep := b_keep) (S := S) (S0 := S) (O := O) (x1 := -1) (g_given := 0) hD1 hD6 hMS hOS hS3 (Nat.le_refl _) hfr hC (Or.inl ⟨rfl, rfl⟩) V LP H
    exact st_mono (fun post h => KX post (br_f hlt h)) (fun post h => KY post (br_f hlt h)) K
end
end
section
section
variable {f_known f_depth f_brief f_outCount f_endCount f_ups f_downs f_steps f_made f_alive f_gift f_ended f_stopped : Int32} {a_length a_lends a_ops a_firsts a_seconds a_thirds a_need a_loan a_hands a_keeps a_come a_numbers a_ints a_counts a_fields a_ending a_stage a_fMethod a_fLine a_held a_lent a_outs a_ends : Nat → Int32}
variable {g_known g_made g_living g_counted g_less g_depth g_begun g_given g_outcome g_isShort g_ran g_put g_ended : Int32} {b_ops b_as b_bs b_cs b_size b_lent b_need b_plans b_keep b_value b_fields b_alive b_method b_pc b_variable b_loan b_outs b_ends b_todo b_phase : Nat → Int32}
variable {m i l : Nat}
/-! what a line reads, writes, where it leads -/
def an_gs (x : Int32) : Prop := x ≠ 10 ∧ x ≠ 12 ∧ x ≠ 13
def an_jp (x : Int32) : Prop := x = 9 ∨ x = 10
def an_R (a_ops a_firsts a_seconds : Nat → Int32) (k v : Nat) : Prop :=
  ((a_ops k = 4 ∨ a_ops k = 5 ∨ a_ops k = 6 ∨ a_ops k = 7 ∨ a_ops k = 8 ∨ a_ops k = 9 ∨ a_ops k = 12) ∧ a_firsts k = nI v) ∨ ((a_ops k = 1 ∨ a_ops k = 3 ∨ a_ops k = 4 ∨ a_ops k = 11) ∧ a_seconds k = nI v)
def an_W (a_ops a_firsts : Nat → Int32) (k v : Nat) : Prop :=
  (a_ops k = 0 ∨ a_ops k = 1 ∨ a_ops k = 2 ∨ a_ops k = 3 ∨ a_ops k = 8 ∨ a_ops k = 11) ∧ a_firsts k = nI v
theorem xa_goes {post : Int32 → Prop} {x : Int32} (h1 : an_gs x → post 1) (h0 : ¬ an_gs x → post 0) : wpX_goesOn post x :=
  br_c (fun z => h0 (fun g => g.1 z)) (fun a => br_c (fun z => h0 (fun g => g.2.1 z)) (fun b => br_c (fun z => h0 (fun g => g.2.2 z)) (fun c => h1 ⟨a, b, c⟩)))
theorem xa_jumps {post : Int32 → Prop} {x : Int32} (h1 : an_jp x → post 1) (h0 : ¬ an_jp x → post 0) : wpX_jumps post x :=
  br_c (fun z => h1 (Or.inl z)) (fun a => br_c (fun z => h1 (Or.inr z)) (fun b => h0 (fun g => g.elim a b)))
theorem ya_goes {post : Int32 → Prop} {k : Nat} (hk : k < 64) (h1 : an_gs (b_ops k) → post 1) (h0 : ¬ an_gs (b_ops k) → post 0) : wpY_goesOn post (g_known, g_made, g_living, g_counted, g_less, g_depth, g_begun, g_given, g_outcome, g_isShort, g_ran, g_put, g_ended, b_ops, b_as, b_bs, b_cs, b_size, b_lent, b_need, b_plans, b_keep, b_value, b_fields, b_alive, b_method, b_pc, b_variable, b_loan, b_outs, b_ends, b_todo, b_phase) (nI k) := by
  have c : (nI k).toNatClampNeg = k := nI_clamp (by omega)
  have v : vp_in (nI k) 64 := vp_in_nI hk (by omega)
  unfold wpY_goesOn
  dsimp only
  rw [c]
  exact ⟨v, br_c (fun z => h0 (fun g => g.1 z)) (fun a => ⟨v, br_c (fun z => h0 (fun g => g.2.1 z)) (fun b => ⟨v, br_c (fun z => h0 (fun g => g.2.2 z)) (fun c => h1 ⟨a, b, c⟩)⟩)⟩)⟩
theorem ya_jumps {post : Int32 → Prop} {k : Nat} (hk : k < 64) (h1 : an_jp (b_ops k) → post 1) (h0 : ¬ an_jp (b_ops k) → post 0) : wpY_jumps post (g_known, g_made, g_living, g_counted, g_less, g_depth, g_begun, g_given, g_outcome, g_isShort, g_ran, g_put, g_ended, b_ops, b_as, b_bs, b_cs, b_size, b_lent, b_need, b_plans, b_keep, b_value, b_fields, b_alive, b_method, b_pc, b_variable, b_loan, b_outs, b_ends, b_todo, b_phase) (nI k) := by
  have c : (nI k).toNatClampNeg = k := nI_clamp (by omega)
  have v : vp_in (nI k) 64 := vp_in_nI hk (by omega)
  unfold wpY_jumps
  dsimp only
  rw [c]
  exact ⟨v, br_c (fun z => h1 (Or.inl z)) (fun a => ⟨v, br_c (fun z => h1 (Or.inr z)) (fun b => h0 (fun g => g.elim a b))⟩)⟩
theorem an_sc {k : Nat} : rn_sc a_ops a_thirds m i k ↔ (an_gs (a_ops (16 * m + i)) ∧ k = i + 1) ∨ (an_jp (a_ops (16 * m + i)) ∧ a_thirds (16 * m + i) = nI k) := by
  unfold rn_sc an_gs an_jp
  constructor
  · intro h
    rcases h with ⟨a, b, c, d⟩ | h
    · exact Or.inl ⟨⟨a, b, c⟩, d⟩
    · exact Or.inr h
  · intro h
    rcases h with ⟨⟨a, b, c⟩, d⟩ | h
    · exact Or.inl ⟨a, b, c, d⟩
    · exact Or.inr h
theorem an_jc {k : Nat} (hC : cd_C a_length a_ops a_firsts a_seconds a_thirds b_as b_bs) (hk : k < 64) (h : an_jp (a_ops k)) : ∃ c : Nat, c < 16 ∧ a_thirds k = nI c := by
  rcases h with h | h
  · exact cd_c16 hC hk (o := 9) h (by omega) (by omega)
  · exact cd_c16 hC hk (o := 10) h (by omega) (by omega)
theorem an_na {v k : Nat} : bt (rn_na a_length a_need m k) v = true ↔ k < rn_len a_length m ∧ bt (a_need (16 * m + k)) v = true := by
  unfold rn_na
  by_cases z : k < rn_len a_length m
  · rw [if_pos z]
    exact ⟨fun h => ⟨z, h⟩, fun h => h.2⟩
  · rw [if_neg z, b_0]
    exact ⟨fun h => absurd h (by decide), fun h => absurd h.1 z⟩
/-- X: needed behind a line -/
theorem xa_nb (hC : cd_C a_length a_ops a_firsts a_seconds a_thirds b_as b_bs) (hm : m < 4) (hi : i < rn_len a_length m) :
    ∃ r : Int32, (∀ v, bt r v = true ↔ ∃ k, rn_sc a_ops a_thirds m i k ∧ k < rn_len a_length m ∧ bt (a_need (16 * m + k)) v = true) ∧ ∀ post : Int32 → Prop, post r → wpX_needBehind post (f_known, f_depth, f_brief, f_outCount, f_endCount, f_ups, f_downs, f_steps, f_made, f_alive, f_gift, f_ended, f_stopped, a_length, a_lends, a_ops, a_firsts, a_seconds, a_thirds, a_need, a_loan, a_hands, a_keeps, a_come, a_numbers, a_ints, a_counts, a_fields, a_ending, a_stage, a_fMethod, a_fLine, a_held, a_lent, a_outs, a_ends) (nI m) (nI i) := by
  have hl := cd_len hC hm
  have ck : (nI (16 * m + i)).toNatClampNeg = 16 * m + i := nI_clamp (by omega)
  have vk : vp_in (nI (16 * m + i)) 64 := vp_in_nI (by omega) (by omega)
  have hm1 : nI i + 1 = nI (i + 1) := nI_1 i
  -- second part
  have K31 : ∀ z0 : Int32, ∃ r : Int32, (∀ v, bt r v = true ↔ (bt z0 v = true ∨ (an_jp (a_ops (16 * m + i)) ∧ ∃ k, a_thirds (16 * m + i) = nI k ∧ k < rn_len a_length m ∧ bt (a_need (16 * m + k)) v = true))) ∧ ∀ post : Int32 → Prop, post r → wX_needBehind_31 post (nI m) (nI (16 * m + i)) z0 f_known f_depth f_brief f_outCount f_endCount f_ups f_downs f_steps f_made f_alive f_gift f_ended f_stopped a_length a_lends a_ops a_firsts a_seconds a_thirds a_need a_loan a_hands a_keeps a_come a_numbers a_ints a_counts a_fields a_ending a_stage a_fMethod a_fLine a_held a_lent a_outs a_ends := by
    intro z0
    by_cases hj : an_jp (a_ops (16 * m + i))
    · obtain ⟨c, hc, ec⟩ := an_jc hC (show 16 * m + i < 64 by omega) hj
      refine ⟨z0 ||| rn_na a_length a_need m c, fun v => ?_, fun post hp => ?_⟩
      · rw [b_or, Bool.or_eq_true, an_na]
        constructor
        · intro h
          rcases h with h | ⟨h1, h2⟩
          · exact Or.inl h
          · exact Or.inr ⟨hj, c, ec, h1, h2⟩
        · intro h
          rcases h with h | ⟨_, k, ek, h1, h2⟩
          · exact Or.inl h
          · have : c = k := tl_inj (ec.symm.trans ek) (by omega) (by omega)
            subst this
            exact Or.inr ⟨h1, h2⟩
      · unfold wX_needBehind_31
        rw [ck, ec]
        refine ⟨vk, xa_jumps (fun _ => br_f tl_n1' ⟨vk, ?_⟩) (fun z => absurd hj z)⟩
        exact rn_needAt hm (by omega) hl (nm_e hp)
    · refine ⟨z0, fun v => ⟨fun h => Or.inl h, fun h => h.elim id (fun g => absurd g.1 hj)⟩, fun post hp => ?_⟩
      unfold wX_needBehind_31
      rw [ck]
      exact ⟨vk, xa_jumps (fun z => absurd z hj) (fun _ => br_t rfl hp)⟩
  by_cases hg : an_gs (a_ops (16 * m + i))
  · obtain ⟨r, h1, h2⟩ := K31 (rn_na a_length a_need m (i + 1))
    refine ⟨r, fun v => ?_, fun post hp => ?_⟩
    · rw [h1 v, an_na]
      constructor
      · intro h
        rcases h with ⟨a, b⟩ | ⟨a, k, b, c, d⟩
        · exact ⟨i + 1, an_sc.mpr (Or.inl ⟨hg, rfl⟩), a, b⟩
        · exact ⟨k, an_sc.mpr (Or.inr ⟨a, b⟩), c, d⟩
      · intro ⟨k, a, b, c⟩
        rcases an_sc.mp a with ⟨_, d⟩ | ⟨d, e⟩
        · subst d
          exact Or.inl ⟨b, c⟩
        · exact Or.inr ⟨d, k, e, b, c⟩
    · refine nm_r (tl_16 m i) (And.intro vk ?_)
      rw [ck, hm1]
      refine xa_goes (fun _ => br_f tl_n1' ?_) (fun z => absurd hg z)
      exact rn_needAt hm (by omega) hl (h2 post hp)
  · obtain ⟨r, h1, h2⟩ := K31 0
    refine ⟨r, fun v => ?_, fun post hp => ?_⟩
    · rw [h1 v, b_0]
      constructor
      · intro h
        rcases h with a | ⟨a, k, b, c, d⟩
        · exact absurd a (by decide)
        · exact ⟨k, an_sc.mpr (Or.inr ⟨a, b⟩), c, d⟩
      · intro ⟨k, a, b, c⟩
        rcases an_sc.mp a with ⟨d, _⟩ | ⟨d, e⟩
        · exact absurd d hg
        · exact Or.inr ⟨d, k, e, b, c⟩
    · refine nm_r (tl_16 m i) (And.intro vk ?_)
      rw [ck]
      exact xa_goes (fun z => absurd z hg) (fun _ => br_t rfl (h2 post hp))
/-- X: whether a line leads to another -/
theorem xa_leads {post : Int32 → Prop} {j : Nat} (hC : cd_C a_length a_ops a_firsts a_seconds a_thirds b_as b_bs) (hm : m < 4) (hi : i < 16) (hj : j < 16) (h1 : rn_sc a_ops a_thirds m i j → post 1) (h0 : ¬ rn_sc a_ops a_thirds m i j → post 0) : wpX_leads post (f_known, f_depth, f_brief, f_outCount, f_endCount, f_ups, f_downs, f_steps, f_made, f_alive, f_gift, f_ended, f_stopped, a_length, a_lends, a_ops, a_firsts, a_seconds, a_thirds, a_need, a_loan, a_hands, a_keeps, a_come, a_numbers, a_ints, a_counts, a_fields, a_ending, a_stage, a_fMethod, a_fLine, a_held, a_lent, a_outs, a_ends) (nI (16 * m + i)) (nI i) (nI j) := by
  have ck : (nI (16 * m + i)).toNatClampNeg = 16 * m + i := nI_clamp (by omega)
  have vk : vp_in (nI (16 * m + i)) 64 := vp_in_nI (by omega) (by omega)
  have K : ¬ (an_gs (a_ops (16 * m + i)) ∧ j = i + 1) → wX_leads_19 post (nI (16 * m + i)) (nI j) f_known f_depth f_brief f_outCount f_endCount f_ups f_downs f_steps f_made f_alive f_gift f_ended f_stopped a_length a_lends a_ops a_firsts a_seconds a_thirds a_need a_loan a_hands a_keeps a_come a_numbers a_ints a_counts a_fields a_ending a_stage a_fMethod a_fLine a_held a_lent a_outs a_ends := by
    intro hn
    unfold wX_leads_19
    rw [ck]
    refine ⟨vk, xa_jumps (fun hp => br_f tl_n1' ⟨vk, br_c (fun z => h1 (an_sc.mpr (Or.inr ⟨hp, z⟩))) (fun z => h0 (fun s => ?_))⟩) (fun hp => br_t rfl (h0 (fun s => ?_)))⟩
    · rcases an_sc.mp s with a | a
      · exact hn a
      · exact z a.2
    · rcases an_sc.mp s with a | a
      · exact hn a
      · exact hp a.1
  refine And.intro vk ?_
  rw [ck, nI_1]
  refine xa_goes (fun g => br_f tl_n1' (br_c (fun z => h1 (an_sc.mpr (Or.inl ⟨g, (tl_inj z (by omega) (by omega)).symm⟩))) (fun z => K (fun a => z (by rw [a.2]))))) (fun g => br_t rfl (K (fun a => g a.1)))
/-- Y: where a line leads, as bits -/
theorem ya_after (hC : cd_C a_length a_ops a_firsts a_seconds a_thirds b_as b_bs) (hm : m < 4) (hi : i < 16) :
    ∃ r : Int32, (∀ k, bt r k = true ↔ rn_sc a_ops a_thirds m i k ∧ k < rn_len a_length m) ∧ ∀ post : Int32 → Prop, post r → wpY_after post (g_known, g_made, g_living, g_counted, g_less, g_depth, g_begun, g_given, g_outcome, g_isShort, g_ran, g_put, g_ended, a_ops, b_as, b_bs, a_thirds, a_length, b_lent, b_need, b_plans, b_keep, b_value, b_fields, b_alive, b_method, b_pc, b_variable, b_loan, b_outs, b_ends, b_todo, b_phase) (nI m) (nI i) := by
  have hl := cd_len hC hm
  have ck : (nI (16 * m + i)).toNatClampNeg = 16 * m + i := nI_clamp (by omega)
  have vk : vp_in (nI (16 * m + i)) 64 := vp_in_nI (by omega) (by omega)
  have cm : (nI m).toNatClampNeg = m := nI_clamp (by omega)
  have vm : vp_in (nI m) 4 := vp_in_nI (by omega) (by omega)
  have K42 : ∀ (z0 z1 : Int32), (∀ k, bt z1 k = true ↔ an_gs (a_ops (16 * m + i)) ∧ k = i + 1) → (∀ k, k < 16 → (bt z0 k = true ↔ an_jp (a_ops (16 * m + i)) ∧ a_thirds (16 * m + i) = nI k)) → ∀ post : Int32 → Prop, post ((z1 ||| z0) &&& (((1 : Int32) <<< (nI (rn_len a_length m) &&& 31)) - 1)) → wY_after_42 post (nI m) z0 z1 g_known g_made g_living g_counted g_less g_depth g_begun g_given g_outcome g_isShort g_ran g_put g_ended a_ops b_as b_bs a_thirds a_length b_lent b_need b_plans b_keep b_value b_fields b_alive b_method b_pc b_variable b_loan b_outs b_ends b_todo b_phase := by
    intro z0 z1 _ _ post hp
    refine nm_e (And.intro vm ?_)
    rw [cm, hl.2]
    exact hp
  have KB : ∀ (z0 z1 : Int32), (∀ k, bt z1 k = true ↔ an_gs (a_ops (16 * m + i)) ∧ k = i + 1) → (∀ k, k < 16 → (bt z0 k = true ↔ an_jp (a_ops (16 * m + i)) ∧ a_thirds (16 * m + i) = nI k)) → ∀ k, bt ((z1 ||| z0) &&& (((1 : Int32) <<< (nI (rn_len a_length m) &&& 31)) - 1)) k = true ↔ rn_sc a_ops a_thirds m i k ∧ k < rn_len a_length m := by
    intro z0 z1 e1 e0 k
    rw [b_and, bt_low hl.1, Bool.and_eq_true, decide_eq_true_iff, b_or, Bool.or_eq_true, an_sc, e1 k]
    constructor
    · intro ⟨a, b⟩
      refine ⟨?_, b⟩
      rcases a with a | a
      · exact Or.inl a
      · exact Or.inr ((e0 k (by omega)).mp a)
    · intro ⟨a, b⟩
      refine ⟨?_, b⟩
      rcases a with a | a
      · exact Or.inl a
      · exact Or.inr ((e0 k (by omega)).mpr a)
  have KJ : ∃ z0 : Int32, (∀ k, k < 16 → (bt z0 k = true ↔ an_jp (a_ops (16 * m + i)) ∧ a_thirds (16 * m + i) = nI k)) ∧ ∀ (z1 : Int32) (post : Int32 → Prop), wY_after_42 post (nI m) z0 z1 g_known g_made g_living g_counted g_less g_depth g_begun g_given g_outcome g_isShort g_ran g_put g_ended a_ops b_as b_bs a_thirds a_length b_lent b_need b_plans b_keep b_value b_fields b_alive b_method b_pc b_variable b_loan b_outs b_ends b_todo b_phase → wY_after_22 post (nI m) (nI (16 * m + i)) z1 g_known g_made g_living g_counted g_less g_depth g_begun g_given g_outcome g_isShort g_ran g_put g_ended a_ops b_as b_bs a_thirds a_length b_lent b_need b_plans b_keep b_value b_fields b_alive b_method b_pc b_variable b_loan b_outs b_ends b_todo b_phase := by
    by_cases hj : an_jp (a_ops (16 * m + i))
    · obtain ⟨c, hc, ec⟩ := an_jc hC (show 16 * m + i < 64 by omega) hj
      refine ⟨(1 : Int32) <<< (nI c &&& 31), fun k hk => ?_, fun z1 post h => ?_⟩
      · rw [bt_one (by omega), decide_eq_true_iff, ec]
        exact ⟨fun z => ⟨hj, by rw [z]⟩, fun z => (tl_inj z.2 (by omega) (by omega)).symm⟩
      · unfold wY_after_22
        rw [ck, ec]
        exact ya_jumps (by omega) (fun _ => br_f tl_n1' ⟨vk, h⟩) (fun z => absurd hj z)
    · refine ⟨0, fun k _ => ?_, fun z1 post h => ya_jumps (by omega) (fun z => absurd z hj) (fun _ => br_t rfl h)⟩
      rw [b_0]
      exact ⟨fun z => absurd z (by decide), fun z => absurd z.1 hj⟩
  obtain ⟨z0, e0, hz⟩ := KJ
  by_cases hg : an_gs (a_ops (16 * m + i))
  · have e1 : ∀ k, bt ((2 : Int32) <<< (nI i &&& 31)) k = true ↔ an_gs (a_ops (16 * m + i)) ∧ k = i + 1 := fun k => by
      rw [bt_two (by omega), decide_eq_true_iff]
      exact ⟨fun z => ⟨hg, z⟩, fun z => z.2⟩
    refine ⟨_, KB z0 _ e1 e0, fun post hp => nm_r (tl_16 m i) ?_⟩
    exact ya_goes (by omega) (fun _ => br_f tl_n1' (hz _ _ (K42 z0 _ e1 e0 post hp))) (fun z => absurd hg z)
  · have e1 : ∀ k, bt (0 : Int32) k = true ↔ an_gs (a_ops (16 * m + i)) ∧ k = i + 1 := fun k => by
      rw [b_0]
      exact ⟨fun z => absurd z (by decide), fun z => absurd z.1 hg⟩
    refine ⟨_, KB z0 0 e1 e0, fun post hp => nm_r (tl_16 m i) ?_⟩
    exact ya_goes (by omega) (fun z => absurd z hg) (fun _ => br_t rfl (hz _ _ (K42 z0 0 e1 e0 post hp)))
end
end
section
section
variable {f_known f_depth f_brief f_outCount f_endCount f_ups f_downs f_steps f_made f_alive f_gift f_ended f_stopped : Int32} {a_length a_lends a_ops a_firsts a_seconds a_thirds a_need a_loan a_hands a_keeps a_come a_numbers a_ints a_counts a_fields a_ending a_stage a_fMethod a_fLine a_held a_lent a_outs a_ends : Nat → Int32}
variable {g_known g_made g_living g_counted g_less g_depth g_begun g_given g_outcome g_isShort g_ran g_put g_ended : Int32} {b_ops b_as b_bs b_cs b_size b_lent b_need b_plans b_keep b_value b_fields b_alive b_method b_pc b_variable b_loan b_outs b_ends b_todo b_phase : Nat → Int32}
variable {m i l k : Nat}
/-- X: what a line reads -/
theorem xa_reads (hC : cd_C a_length a_ops a_firsts a_seconds a_thirds b_as b_bs) (hk : k < 64) : ∃ r : Int32, mkL 6 r ∧ (∀ v, bt r v = true ↔ an_R a_ops a_firsts a_seconds k v ∧ v < 6) ∧ ∀ post : Int32 → Prop, post r → wpX_reads post (f_known, f_depth, f_brief, f_outCount, f_endCount, f_ups, f_downs, f_steps, f_made, f_alive, f_gift, f_ended, f_stopped, a_length, a_lends, a_ops, a_firsts, a_seconds, a_thirds, a_need, a_loan, a_hands, a_keeps, a_come, a_numbers, a_ints, a_counts, a_fields, a_ending, a_stage, a_fMethod, a_fLine, a_held, a_lent, a_outs, a_ends) (nI k) := by
  have ck : (nI k).toNatClampNeg = k := nI_clamp (by omega)
  have vk : vp_in (nI k) 64 := vp_in_nI hk (by omega)
  obtain ⟨o, ho, eo⟩ := cd_o hC hk
  have hcase : o = 0 ∨ o = 1 ∨ o = 2 ∨ o = 3 ∨ o = 4 ∨ o = 5 ∨ o = 6 ∨ o = 7 ∨ o = 8 ∨ o = 9 ∨ o = 10 ∨ o = 11 ∨ o = 12 ∨ o = 13 := by omega
  rcases hcase with rfl | rfl | rfl | rfl | rfl | rfl | rfl | rfl | rfl | rfl | rfl | rfl | rfl | rfl
  · obtain ⟨a, ha, ea, _⟩ := cd_a hC hk (by rw [eo]; decide) (by rw [eo]; decide)
    refine ⟨0, mk_0 6, fun v => ?_, fun post hp => And.intro vk (nm_e (And.intro vk (nm_e (And.intro vk (nm_r (e' := nI 0) (by rw [ck]; exact eo) (br_t (by decide) hp))))))⟩
    unfold an_R
    rw [b_0, eo]
    refine ⟨fun z => absurd z (by decide), fun ⟨z, _⟩ => ?_⟩
    rcases z with ⟨z, _⟩ | ⟨z, _⟩ <;> exact absurd z (by decide)
  · obtain ⟨a, ha, ea, _⟩ := cd_a hC hk (by rw [eo]; decide) (by rw [eo]; decide)
    obtain ⟨b, hb, es, _⟩ := cd_b hC hk eo ho (by omega)
    refine ⟨(1 : Int32) <<< (nI b &&& 31), mk_one hb (by omega), fun v => ?_, fun post hp => And.intro vk (nm_e (And.intro vk (nm_r (e' := (1 : Int32) <<< (nI b &&& 31)) (by rw [ck, es]) (And.intro vk (nm_r (e' := nI 1) (by rw [ck]; exact eo) (br_f (by decide) (br_f (by decide) (br_t rfl hp))))))))⟩
    unfold an_R
    rw [bt_one (by omega), decide_eq_true_iff, eo, es]
    constructor
    · intro z
      exact ⟨Or.inr ⟨by decide, by rw [z]⟩, by omega⟩
    · intro ⟨z, hv⟩
      rcases z with ⟨z, _⟩ | ⟨_, z⟩
      · exact absurd z (by decide)
      · exact (tl_inj z (by omega) (by omega)).symm
  · obtain ⟨a, ha, ea, _⟩ := cd_a hC hk (by rw [eo]; decide) (by rw [eo]; decide)
    refine ⟨0, mk_0 6, fun v => ?_, fun post hp => And.intro vk (nm_e (And.intro vk (nm_e (And.intro vk (nm_r (e' := nI 2) (by rw [ck]; exact eo) (br_f (by decide) (br_f (by decide) (br_f (by decide) (br_t rfl hp)))))))))⟩
    unfold an_R
    rw [b_0, eo]
    refine ⟨fun z => absurd z (by decide), fun ⟨z, _⟩ => ?_⟩
    rcases z with ⟨z, _⟩ | ⟨z, _⟩ <;> exact absurd z (by decide)
  · obtain ⟨a, ha, ea, _⟩ := cd_a hC hk (by rw [eo]; decide) (by rw [eo]; decide)
    obtain ⟨b, hb, es, _⟩ := cd_b hC hk eo ho (by omega)
    refine ⟨(1 : Int32) <<< (nI b &&& 31), mk_one hb (by omega), fun v => ?_, fun post hp => And.intro vk (nm_e (And.intro vk (nm_r (e' := (1 : Int32) <<< (nI b &&& 31)) (by rw [ck, es]) (And.intro vk (nm_r (e' := nI 3) (by rw [ck]; exact eo) (br_f (by decide) (br_f (by decide) (br_f (by decide) (br_f (by decide) (br_t rfl hp))))))))))⟩
    unfold an_R
    rw [bt_one (by omega), decide_eq_true_iff, eo, es]
    constructor
    · intro z
      exact ⟨Or.inr ⟨by decide, by rw [z]⟩, by omega⟩
    · intro ⟨z, hv⟩
      rcases z with ⟨z, _⟩ | ⟨_, z⟩
      · exact absurd z (by decide)
      · exact (tl_inj z (by omega) (by omega)).symm
  · obtain ⟨a, ha, ea, _⟩ := cd_a hC hk (by rw [eo]; decide) (by rw [eo]; decide)
    obtain ⟨b, hb, es, _⟩ := cd_b hC hk eo ho (by omega)
    refine ⟨((1 : Int32) <<< (nI a &&& 31)) ||| ((1 : Int32) <<< (nI b &&& 31)), mk_or (mk_one ha (by omega)) (mk_one hb (by omega)), fun v => ?_, fun post hp => And.intro vk (nm_r (e' := (1 : Int32) <<< (nI a &&& 31)) (by rw [ck, ea]) (And.intro vk (nm_r (e' := (1 : Int32) <<< (nI b &&& 31)) (by rw [ck, es]) (And.intro vk (nm_r (e' := nI 4) (by rw [ck]; exact eo) (br_f (by decide) (br_f (by decide) (br_f (by decide) (br_f (by decide) (br_f (by decide) (br_t rfl hp)))))))))))⟩
    unfold an_R
    rw [b_or, Bool.or_eq_true, bt_one (by omega), bt_one (by omega), decide_eq_true_iff, decide_eq_true_iff, eo, ea, es]
    constructor
    · intro z
      rcases z with z | z
      · exact ⟨Or.inl ⟨by decide, by rw [z]⟩, by omega⟩
      · exact ⟨Or.inr ⟨by decide, by rw [z]⟩, by omega⟩
    · intro ⟨z, hv⟩
      rcases z with ⟨_, z⟩ | ⟨_, z⟩
      · exact Or.inl (tl_inj z (by omega) (by omega)).symm
      · exact Or.inr (tl_inj z (by omega) (by omega)).symm
  · obtain ⟨a, ha, ea, _⟩ := cd_a hC hk (by rw [eo]; decide) (by rw [eo]; decide)
    refine ⟨(1 : Int32) <<< (nI a &&& 31), mk_one ha (by omega), fun v => ?_, fun post hp => And.intro vk (nm_r (e' := (1 : Int32) <<< (nI a &&& 31)) (by rw [ck, ea]) (And.intro vk (nm_e (And.intro vk (nm_r (e' := nI 5) (by rw [ck]; exact eo) (br_f (by decide) (br_f (by decide) (br_f (by decide) (br_f (by decide) (br_f (by decide) (br_f (by decide) (br_t rfl hp))))))))))))⟩
    unfold an_R
    rw [bt_one (by omega), decide_eq_true_iff, eo, ea]
    constructor
    · intro z
      exact ⟨Or.inl ⟨by decide, by rw [z]⟩, by omega⟩
    · intro ⟨z, hv⟩
      rcases z with ⟨_, z⟩ | ⟨z, _⟩
      · exact (tl_inj z (by omega) (by omega)).symm
      · exact absurd z (by decide)
  · obtain ⟨a, ha, ea, _⟩ := cd_a hC hk (by rw [eo]; decide) (by rw [eo]; decide)
    refine ⟨(1 : Int32) <<< (nI a &&& 31), mk_one ha (by omega), fun v => ?_, fun post hp => And.intro vk (nm_r (e' := (1 : Int32) <<< (nI a &&& 31)) (by rw [ck, ea]) (And.intro vk (nm_e (And.intro vk (nm_r (e' := nI 6) (by rw [ck]; exact eo) (br_f (by decide) (br_f (by decide) (br_f (by decide) (br_f (by decide) (br_f (by decide) (br_f (by decide) (br_f (by decide) (br_t rfl hp)))))))))))))⟩
    unfold an_R
    rw [bt_one (by omega), decide_eq_true_iff, eo, ea]
    constructor
    · intro z
      exact ⟨Or.inl ⟨by decide, by rw [z]⟩, by omega⟩
    · intro ⟨z, hv⟩
      rcases z with ⟨_, z⟩ | ⟨z, _⟩
      · exact (tl_inj z (by omega) (by omega)).symm
      · exact absurd z (by decide)
  · obtain ⟨a, ha, ea, _⟩ := cd_a hC hk (by rw [eo]; decide) (by rw [eo]; decide)
    refine ⟨(1 : Int32) <<< (nI a &&& 31), mk_one ha (by omega), fun v => ?_, fun post hp => And.intro vk (nm_r (e' := (1 : Int32) <<< (nI a &&& 31)) (by rw [ck, ea]) (And.intro vk (nm_e (And.intro vk (nm_r (e' := nI 7) (by rw [ck]; exact eo) (br_f (by decide) (br_f (by decide) (br_f (by decide) (br_f (by decide) (br_f (by decide) (br_f (by decide) (br_f (by decide) (br_f (by decide) (br_t rfl hp))))))))))))))⟩
    unfold an_R
    rw [bt_one (by omega), decide_eq_true_iff, eo, ea]
    constructor
    · intro z
      exact ⟨Or.inl ⟨by decide, by rw [z]⟩, by omega⟩
    · intro ⟨z, hv⟩
      rcases z with ⟨_, z⟩ | ⟨z, _⟩
      · exact (tl_inj z (by omega) (by omega)).symm
      · exact absurd z (by decide)
  · obtain ⟨a, ha, ea, _⟩ := cd_a hC hk (by rw [eo]; decide) (by rw [eo]; decide)
    refine ⟨(1 : Int32) <<< (nI a &&& 31), mk_one ha (by omega), fun v => ?_, fun post hp => And.intro vk (nm_r (e' := (1 : Int32) <<< (nI a &&& 31)) (by rw [ck, ea]) (And.intro vk (nm_e (And.intro vk (nm_r (e' := nI 8) (by rw [ck]; exact eo) (br_f (by decide) (br_f (by decide) (br_f (by decide) (br_f (by decide) (br_f (by decide) (br_f (by decide) (br_f (by decide) (br_f (by decide) (br_f (by decide) (br_t rfl hp)))))))))))))))⟩
    unfold an_R
    rw [bt_one (by omega), decide_eq_true_iff, eo, ea]
    constructor
    · intro z
      exact ⟨Or.inl ⟨by decide, by rw [z]⟩, by omega⟩
    · intro ⟨z, hv⟩
      rcases z with ⟨_, z⟩ | ⟨z, _⟩
      · exact (tl_inj z (by omega) (by omega)).symm
      · exact absurd z (by decide)
  · obtain ⟨a, ha, ea, _⟩ := cd_a hC hk (by rw [eo]; decide) (by rw [eo]; decide)
    refine ⟨(1 : Int32) <<< (nI a &&& 31), mk_one ha (by omega), fun v => ?_, fun post hp => And.intro vk (nm_r (e' := (1 : Int32) <<< (nI a &&& 31)) (by rw [ck, ea]) (And.intro vk (nm_e (And.intro vk (nm_r (e' := nI 9) (by rw [ck]; exact eo) (br_f (by decide) (br_f (by decide) (br_f (by decide) (br_f (by decide) (br_f (by decide) (br_f (by decide) (br_f (by decide) (br_f (by decide) (br_f (by decide) (br_f (by decide) (br_t rfl hp))))))))))))))))⟩
    unfold an_R
    rw [bt_one (by omega), decide_eq_true_iff, eo, ea]
    constructor
    · intro z
      exact ⟨Or.inl ⟨by decide, by rw [z]⟩, by omega⟩
    · intro ⟨z, hv⟩
      rcases z with ⟨_, z⟩ | ⟨z, _⟩
      · exact (tl_inj z (by omega) (by omega)).symm
      · exact absurd z (by decide)
  · refine ⟨0, mk_0 6, fun v => ?_, fun post hp => And.intro vk (nm_e (And.intro vk (nm_e (And.intro vk (nm_r (e' := nI 10) (by rw [ck]; exact eo) (br_f (by decide) (br_f (by decide) (br_f (by decide) (br_f (by decide) (br_f (by decide) (br_f (by decide) (br_f (by decide) (br_f (by decide) (br_f (by decide) (br_f (by decide) (br_f (by decide) (br_t rfl hp)))))))))))))))))⟩
    unfold an_R
    rw [b_0, eo]
    refine ⟨fun z => absurd z (by decide), fun ⟨z, _⟩ => ?_⟩
    rcases z with ⟨z, _⟩ | ⟨z, _⟩ <;> exact absurd z (by decide)
  · obtain ⟨a, ha, ea, _⟩ := cd_a hC hk (by rw [eo]; decide) (by rw [eo]; decide)
    obtain ⟨b, hb, es, _⟩ := cd_b hC hk eo ho (by omega)
    refine ⟨(1 : Int32) <<< (nI b &&& 31), mk_one hb (by omega), fun v => ?_, fun post hp => And.intro vk (nm_e (And.intro vk (nm_r (e' := (1 : Int32) <<< (nI b &&& 31)) (by rw [ck, es]) (And.intro vk (nm_r (e' := nI 11) (by rw [ck]; exact eo) (br_f (by decide) (br_f (by decide) (br_f (by decide) (br_f (by decide) (br_f (by decide) (br_f (by decide) (br_f (by decide) (br_f (by decide) (br_f (by decide) (br_f (by decide) (br_f (by decide) (br_f (by decide) (br_t rfl hp))))))))))))))))))⟩
    unfold an_R
    rw [bt_one (by omega), decide_eq_true_iff, eo, es]
    constructor
    · intro z
      exact ⟨Or.inr ⟨by decide, by rw [z]⟩, by omega⟩
    · intro ⟨z, hv⟩
      rcases z with ⟨z, _⟩ | ⟨_, z⟩
      · exact absurd z (by decide)
      · exact (tl_inj z (by omega) (by omega)).symm
  · obtain ⟨a, ha, ea, _⟩ := cd_a hC hk (by rw [eo]; decide) (by rw [eo]; decide)
    refine ⟨(1 : Int32) <<< (nI a &&& 31), mk_one ha (by omega), fun v => ?_, fun post hp => And.intro vk (nm_r (e' := (1 : Int32) <<< (nI a &&& 31)) (by rw [ck, ea]) (And.intro vk (nm_e (And.intro vk (nm_r (e' := nI 12) (by rw [ck]; exact eo) (br_f (by decide) (br_f (by decide) (br_f (by decide) (br_f (by decide) (br_f (by decide) (br_f (by decide) (br_f (by decide) (br_f (by decide) (br_f (by decide) (br_f (by decide) (br_f (by decide) (br_f (by decide) (br_f (by decide) (br_t rfl hp)))))))))))))))))))⟩
    unfold an_R
    rw [bt_one (by omega), decide_eq_true_iff, eo, ea]
    constructor
    · intro z
      exact ⟨Or.inl ⟨by decide, by rw [z]⟩, by omega⟩
    · intro ⟨z, hv⟩
      rcases z with ⟨_, z⟩ | ⟨z, _⟩
      · exact (tl_inj z (by omega) (by omega)).symm
      · exact absurd z (by decide)
  · refine ⟨0, mk_0 6, fun v => ?_, fun post hp => And.intro vk (nm_e (And.intro vk (nm_e (And.intro vk (nm_r (e' := nI 13) (by rw [ck]; exact eo) (br_f (by decide) (br_t (by decide) hp)))))))⟩
    unfold an_R
    rw [b_0, eo]
    refine ⟨fun z => absurd z (by decide), fun ⟨z, _⟩ => ?_⟩
    rcases z with ⟨z, _⟩ | ⟨z, _⟩ <;> exact absurd z (by decide)
/-- X: what a line writes -/
theorem xa_writes (hC : cd_C a_length a_ops a_firsts a_seconds a_thirds b_as b_bs) (hk : k < 64) : ∃ r : Int32, mkL 6 r ∧ (∀ v, bt r v = true ↔ an_W a_ops a_firsts k v ∧ v < 6) ∧ ∀ post : Int32 → Prop, post r → wpX_writes post (f_known, f_depth, f_brief, f_outCount, f_endCount, f_ups, f_downs, f_steps, f_made, f_alive, f_gift, f_ended, f_stopped, a_length, a_lends, a_ops, a_firsts, a_seconds, a_thirds, a_need, a_loan, a_hands, a_keeps, a_come, a_numbers, a_ints, a_counts, a_fields, a_ending, a_stage, a_fMethod, a_fLine, a_held, a_lent, a_outs, a_ends) (nI k) := by
  have ck : (nI k).toNatClampNeg = k := nI_clamp (by omega)
  have vk : vp_in (nI k) 64 := vp_in_nI hk (by omega)
  obtain ⟨o, ho, eo⟩ := cd_o hC hk
  have hcase : o = 0 ∨ o = 1 ∨ o = 2 ∨ o = 3 ∨ o = 4 ∨ o = 5 ∨ o = 6 ∨ o = 7 ∨ o = 8 ∨ o = 9 ∨ o = 10 ∨ o = 11 ∨ o = 12 ∨ o = 13 := by omega
  rcases hcase with rfl | rfl | rfl | rfl | rfl | rfl | rfl | rfl | rfl | rfl | rfl | rfl | rfl | rfl
  · obtain ⟨a, ha, ea, _⟩ := cd_a hC hk (by rw [eo]; decide) (by rw [eo]; decide)
    refine ⟨(1 : Int32) <<< (nI a &&& 31), mk_one ha (by omega), fun v => ?_, fun post hp => And.intro vk (nm_r (e' := nI 0) (by rw [ck]; exact eo) (br_f (by decide) (br_f (by decide) (br_t rfl ⟨vk, by rw [ck, ea]; exact hp⟩))))⟩
    unfold an_W
    rw [bt_one (by omega), decide_eq_true_iff, eo, ea]
    constructor
    · intro z
      exact ⟨⟨by decide, by rw [z]⟩, by omega⟩
    · intro ⟨⟨_, z⟩, hv⟩
      exact (tl_inj z (by omega) (by omega)).symm
  · obtain ⟨a, ha, ea, _⟩ := cd_a hC hk (by rw [eo]; decide) (by rw [eo]; decide)
    refine ⟨(1 : Int32) <<< (nI a &&& 31), mk_one ha (by omega), fun v => ?_, fun post hp => And.intro vk (nm_r (e' := nI 1) (by rw [ck]; exact eo) (br_f (by decide) (br_f (by decide) (br_f (by decide) (br_t rfl ⟨vk, by rw [ck, ea]; exact hp⟩)))))⟩
    unfold an_W
    rw [bt_one (by omega), decide_eq_true_iff, eo, ea]
    constructor
    · intro z
      exact ⟨⟨by decide, by rw [z]⟩, by omega⟩
    · intro ⟨⟨_, z⟩, hv⟩
      exact (tl_inj z (by omega) (by omega)).symm
  · obtain ⟨a, ha, ea, _⟩ := cd_a hC hk (by rw [eo]; decide) (by rw [eo]; decide)
    refine ⟨(1 : Int32) <<< (nI a &&& 31), mk_one ha (by omega), fun v => ?_, fun post hp => And.intro vk (nm_r (e' := nI 2) (by rw [ck]; exact eo) (br_f (by decide) (br_f (by decide) (br_f (by decide) (br_f (by decide) (br_t rfl ⟨vk, by rw [ck, ea]; exact hp⟩))))))⟩
    unfold an_W
    rw [bt_one (by omega), decide_eq_true_iff, eo, ea]
    constructor
    · intro z
      exact ⟨⟨by decide, by rw [z]⟩, by omega⟩
    · intro ⟨⟨_, z⟩, hv⟩
      exact (tl_inj z (by omega) (by omega)).symm
  · obtain ⟨a, ha, ea, _⟩ := cd_a hC hk (by rw [eo]; decide) (by rw [eo]; decide)
    refine ⟨(1 : Int32) <<< (nI a &&& 31), mk_one ha (by omega), fun v => ?_, fun post hp => And.intro vk (nm_r (e' := nI 3) (by rw [ck]; exact eo) (br_f (by decide) (br_f (by decide) (br_f (by decide) (br_f (by decide) (br_f (by decide) (br_t rfl ⟨vk, by rw [ck, ea]; exact hp⟩)))))))⟩
    unfold an_W
    rw [bt_one (by omega), decide_eq_true_iff, eo, ea]
    constructor
    · intro z
      exact ⟨⟨by decide, by rw [z]⟩, by omega⟩
    · intro ⟨⟨_, z⟩, hv⟩
      exact (tl_inj z (by omega) (by omega)).symm
  · refine ⟨0, mk_0 6, fun v => ?_, fun post hp => And.intro vk (nm_r (e' := nI 4) (by rw [ck]; exact eo) (br_f (by decide) (br_f (by decide) (br_f (by decide) (br_f (by decide) (br_f (by decide) (br_f (by decide) (br_t rfl hp))))))))⟩
    unfold an_W
    rw [b_0, eo]
    exact ⟨fun z => absurd z (by decide), fun ⟨⟨z, _⟩, _⟩ => absurd z (by decide)⟩
  · refine ⟨0, mk_0 6, fun v => ?_, fun post hp => And.intro vk (nm_r (e' := nI 5) (by rw [ck]; exact eo) (br_f (by decide) (br_f (by decide) (br_f (by decide) (br_f (by decide) (br_f (by decide) (br_f (by decide) (br_f (by decide) (br_t rfl hp)))))))))⟩
    unfold an_W
    rw [b_0, eo]
    exact ⟨fun z => absurd z (by decide), fun ⟨⟨z, _⟩, _⟩ => absurd z (by decide)⟩
  · refine ⟨0, mk_0 6, fun v => ?_, fun post hp => And.intro vk (nm_r (e' := nI 6) (by rw [ck]; exact eo) (br_f (by decide) (br_f (by decide) (br_f (by decide) (br_f (by decide) (br_f (by decide) (br_f (by decide) (br_f (by decide) (br_f (by decide) (br_t rfl hp))))))))))⟩
    unfold an_W
    rw [b_0, eo]
    exact ⟨fun z => absurd z (by decide), fun ⟨⟨z, _⟩, _⟩ => absurd z (by decide)⟩
  · refine ⟨0, mk_0 6, fun v => ?_, fun post hp => And.intro vk (nm_r (e' := nI 7) (by rw [ck]; exact eo) (br_f (by decide) (br_f (by decide) (br_f (by decide) (br_f (by decide) (br_f (by decide) (br_f (by decide) (br_f (by decide) (br_f (by decide) (br_f (by decide) (br_t rfl hp)))))))))))⟩
    unfold an_W
    rw [b_0, eo]
    exact ⟨fun z => absurd z (by decide), fun ⟨⟨z, _⟩, _⟩ => absurd z (by decide)⟩
  · obtain ⟨a, ha, ea, _⟩ := cd_a hC hk (by rw [eo]; decide) (by rw [eo]; decide)
    refine ⟨(1 : Int32) <<< (nI a &&& 31), mk_one ha (by omega), fun v => ?_, fun post hp => And.intro vk (nm_r (e' := nI 8) (by rw [ck]; exact eo) (br_f (by decide) (br_f (by decide) (br_f (by decide) (br_f (by decide) (br_f (by decide) (br_f (by decide) (br_f (by decide) (br_f (by decide) (br_f (by decide) (br_f (by decide) (br_t rfl ⟨vk, by rw [ck, ea]; exact hp⟩))))))))))))⟩
    unfold an_W
    rw [bt_one (by omega), decide_eq_true_iff, eo, ea]
    constructor
    · intro z
      exact ⟨⟨by decide, by rw [z]⟩, by omega⟩
    · intro ⟨⟨_, z⟩, hv⟩
      exact (tl_inj z (by omega) (by omega)).symm
  · refine ⟨0, mk_0 6, fun v => ?_, fun post hp => And.intro vk (nm_r (e' := nI 9) (by rw [ck]; exact eo) (br_f (by decide) (br_f (by decide) (br_f (by decide) (br_f (by decide) (br_f (by decide) (br_f (by decide) (br_f (by decide) (br_f (by decide) (br_f (by decide) (br_f (by decide) (br_f (by decide) (br_t rfl hp)))))))))))))⟩
    unfold an_W
    rw [b_0, eo]
    exact ⟨fun z => absurd z (by decide), fun ⟨⟨z, _⟩, _⟩ => absurd z (by decide)⟩
  · refine ⟨0, mk_0 6, fun v => ?_, fun post hp => And.intro vk (nm_r (e' := nI 10) (by rw [ck]; exact eo) (br_f (by decide) (br_f (by decide) (br_f (by decide) (br_f (by decide) (br_f (by decide) (br_f (by decide) (br_f (by decide) (br_f (by decide) (br_f (by decide) (br_f (by decide) (br_f (by decide) (br_f (by decide) (br_t rfl hp))))))))))))))⟩
    unfold an_W
    rw [b_0, eo]
    exact ⟨fun z => absurd z (by decide), fun ⟨⟨z, _⟩, _⟩ => absurd z (by decide)⟩
  · obtain ⟨a, ha, ea, _⟩ := cd_a hC hk (by rw [eo]; decide) (by rw [eo]; decide)
    refine ⟨(1 : Int32) <<< (nI a &&& 31), mk_one ha (by omega), fun v => ?_, fun post hp => And.intro vk (nm_r (e' := nI 11) (by rw [ck]; exact eo) (br_f (by decide) (br_f (by decide) (br_f (by decide) (br_f (by decide) (br_f (by decide) (br_f (by decide) (br_f (by decide) (br_f (by decide) (br_f (by decide) (br_f (by decide) (br_f (by decide) (br_f (by decide) (br_f (by decide) (br_t rfl ⟨vk, by rw [ck, ea]; exact hp⟩)))))))))))))))⟩
    unfold an_W
    rw [bt_one (by omega), decide_eq_true_iff, eo, ea]
    constructor
    · intro z
      exact ⟨⟨by decide, by rw [z]⟩, by omega⟩
    · intro ⟨⟨_, z⟩, hv⟩
      exact (tl_inj z (by omega) (by omega)).symm
  · refine ⟨0, mk_0 6, fun v => ?_, fun post hp => And.intro vk (nm_r (e' := nI 12) (by rw [ck]; exact eo) (br_f (by decide) (br_t (by decide) hp)))⟩
    unfold an_W
    rw [b_0, eo]
    exact ⟨fun z => absurd z (by decide), fun ⟨⟨z, _⟩, _⟩ => absurd z (by decide)⟩
  · refine ⟨0, mk_0 6, fun v => ?_, fun post hp => And.intro vk (nm_r (e' := nI 13) (by rw [ck]; exact eo) (br_f (by decide) (br_t (by decide) hp)))⟩
    unfold an_W
    rw [b_0, eo]
    exact ⟨fun z => absurd z (by decide), fun ⟨⟨z, _⟩, _⟩ => absurd z (by decide)⟩
/-- Y: whether a line reads a variable -/
theorem ya_57 {post : Int32 → Prop} {v : Nat} {f s : Int32} (hk : k < 64) (h1 : (¬ f = 0 ∧ b_as k = nI v) ∨ (¬ s = 0 ∧ b_bs k = nI v) → post 1) (h0 : ¬ ((¬ f = 0 ∧ b_as k = nI v) ∨ (¬ s = 0 ∧ b_bs k = nI v)) → post 0) : wY_reads_57 post (nI k) (nI v) f s g_known g_made g_living g_counted g_less g_depth g_begun g_given g_outcome g_isShort g_ran g_put g_ended b_ops b_as b_bs b_cs b_size b_lent b_need b_plans b_keep b_value b_fields b_alive b_method b_pc b_variable b_loan b_outs b_ends b_todo b_phase := by
  have ck : (nI k).toNatClampNeg = k := nI_clamp (by omega)
  have vk : vp_in (nI k) 64 := vp_in_nI hk (by omega)
  have K : ¬ (¬ f = 0 ∧ b_as k = nI v) → wY_reads_74 post (nI k) (nI v) s g_known g_made g_living g_counted g_less g_depth g_begun g_given g_outcome g_isShort g_ran g_put g_ended b_ops b_as b_bs b_cs b_size b_lent b_need b_plans b_keep b_value b_fields b_alive b_method b_pc b_variable b_loan b_outs b_ends b_todo b_phase := by
    intro hn
    unfold wY_reads_74
    rw [ck]
    exact br_c (fun z => h0 (fun g => g.elim hn (fun q => q.1 z))) (fun z => ⟨vk, br_c (fun q => h1 (Or.inr ⟨z, q⟩)) (fun q => h0 (fun g => g.elim hn (fun r => q r.2)))⟩)
  unfold wY_reads_57
  rw [ck]
  exact br_c (fun z => K (fun q => q.1 z)) (fun z => ⟨vk, br_c (fun q => h1 (Or.inl ⟨z, q⟩)) (fun q => K (fun r => q r.2))⟩)
theorem ya_reads {post : Int32 → Prop} {v : Nat} (hC : cd_C a_length a_ops a_firsts a_seconds a_thirds b_as b_bs) (hk : k < 64) (h1 : an_R a_ops a_firsts a_seconds k v → post 1) (h0 : ¬ an_R a_ops a_firsts a_seconds k v → post 0) : wpY_reads post (g_known, g_made, g_living, g_counted, g_less, g_depth, g_begun, g_given, g_outcome, g_isShort, g_ran, g_put, g_ended, a_ops, b_as, b_bs, b_cs, b_size, b_lent, b_need, b_plans, b_keep, b_value, b_fields, b_alive, b_method, b_pc, b_variable, b_loan, b_outs, b_ends, b_todo, b_phase) (nI k) (nI v) := by
  have ck : (nI k).toNatClampNeg = k := nI_clamp (by omega)
  have vk : vp_in (nI k) 64 := vp_in_nI hk (by omega)
  obtain ⟨o, ho, eo⟩ := cd_o hC hk
  have hF : (a_ops k = 4 ∨ a_ops k = 5 ∨ a_ops k = 6 ∨ a_ops k = 7 ∨ a_ops k = 8 ∨ a_ops k = 9 ∨ a_ops k = 12) → b_as k = a_firsts k := fun h => by
    obtain ⟨a, ha, ea, eb⟩ := cd_a hC hk (fun z => by rw [z] at h; exact absurd h (by decide)) (fun z => by rw [z] at h; exact absurd h (by decide))
    rw [ea, eb]
  have hSe : (a_ops k = 1 ∨ a_ops k = 3 ∨ a_ops k = 4 ∨ a_ops k = 11) → b_bs k = a_seconds k := fun h => by
    have hh : o = 1 ∨ o = 3 ∨ o = 4 ∨ o = 11 := by
      rw [eo] at h
      rcases h with h | h | h | h
      · exact Or.inl (tl_inj (b := 1) h (by omega) (by omega))
      · exact Or.inr (Or.inl (tl_inj (b := 3) h (by omega) (by omega)))
      · exact Or.inr (Or.inr (Or.inl (tl_inj (b := 4) h (by omega) (by omega))))
      · exact Or.inr (Or.inr (Or.inr (tl_inj (b := 11) h (by omega) (by omega))))
    obtain ⟨b, hb, es, et⟩ := cd_b hC hk eo ho hh
    rw [es, et]
  have K29 : ∀ f : Int32, (¬ f = 0 ↔ (a_ops k = 4 ∨ a_ops k = 5 ∨ a_ops k = 6 ∨ a_ops k = 7 ∨ a_ops k = 8 ∨ a_ops k = 9 ∨ a_ops k = 12)) → wY_reads_29 post (nI k) (nI v) (nI o) f g_known g_made g_living g_counted g_less g_depth g_begun g_given g_outcome g_isShort g_ran g_put g_ended a_ops b_as b_bs b_cs b_size b_lent b_need b_plans b_keep b_value b_fields b_alive b_method b_pc b_variable b_loan b_outs b_ends b_todo b_phase := by
    intro f hf
    have K57 : ∀ s : Int32, (¬ s = 0 ↔ (a_ops k = 1 ∨ a_ops k = 3 ∨ a_ops k = 4 ∨ a_ops k = 11)) → wY_reads_57 post (nI k) (nI v) f s g_known g_made g_living g_counted g_less g_depth g_begun g_given g_outcome g_isShort g_ran g_put g_ended a_ops b_as b_bs b_cs b_size b_lent b_need b_plans b_keep b_value b_fields b_alive b_method b_pc b_variable b_loan b_outs b_ends b_todo b_phase := by
      intro s hs
      have hiff : (¬ f = 0 ∧ b_as k = nI v) ∨ (¬ s = 0 ∧ b_bs k = nI v) ↔ an_R a_ops a_firsts a_seconds k v := by
        unfold an_R
        constructor
        · intro h
          rcases h with ⟨a, b⟩ | ⟨a, b⟩
          · exact Or.inl ⟨hf.mp a, by rw [← hF (hf.mp a)]; exact b⟩
          · exact Or.inr ⟨hs.mp a, by rw [← hSe (hs.mp a)]; exact b⟩
        · intro h
          rcases h with ⟨a, b⟩ | ⟨a, b⟩
          · exact Or.inl ⟨hf.mpr a, by rw [hF a]; exact b⟩
          · exact Or.inr ⟨hs.mpr a, by rw [hSe a]; exact b⟩
      exact ya_57 hk (fun h => h1 (hiff.mp h)) (fun h => h0 (fun z => h (hiff.mpr z)))
    refine br_c (fun z => K57 1 ⟨fun _ => Or.inl (eo.trans z), fun _ => tl_n1'⟩) (fun z1 => br_c (fun z => K57 1 ⟨fun _ => Or.inr (Or.inl (eo.trans z)), fun _ => tl_n1'⟩) (fun z2 => br_c (fun z => K57 1 ⟨fun _ => Or.inr (Or.inr (Or.inl (eo.trans z))), fun _ => tl_n1'⟩) (fun z3 => br_c (fun z => K57 1 ⟨fun _ => Or.inr (Or.inr (Or.inr (eo.trans z))), fun _ => tl_n1'⟩) (fun z4 => K57 0 ⟨fun z => absurd rfl z, fun z => ?_⟩))))
    rw [eo] at z
    rcases z with z | z | z | z
    · exact absurd z z1
    · exact absurd z z2
    · exact absurd z z3
    · exact absurd z z4
  refine And.intro vk (nm_r (e' := nI o) (by rw [ck]; exact eo) ?_)
  have hcase : o = 0 ∨ o = 1 ∨ o = 2 ∨ o = 3 ∨ o = 4 ∨ o = 5 ∨ o = 6 ∨ o = 7 ∨ o = 8 ∨ o = 9 ∨ o = 10 ∨ o = 11 ∨ o = 12 ∨ o = 13 := by omega
  rcases hcase with rfl | rfl | rfl | rfl | rfl | rfl | rfl | rfl | rfl | rfl | rfl | rfl | rfl | rfl
  · exact br_t (by decide) (br_f (by decide) (K29 0 ⟨fun z => absurd rfl z, fun z => by rw [eo] at z; exact absurd z (by decide)⟩))
  · exact br_t (by decide) (br_f (by decide) (K29 0 ⟨fun z => absurd rfl z, fun z => by rw [eo] at z; exact absurd z (by decide)⟩))
  · exact br_t (by decide) (br_f (by decide) (K29 0 ⟨fun z => absurd rfl z, fun z => by rw [eo] at z; exact absurd z (by decide)⟩))
  · exact br_t (by decide) (br_f (by decide) (K29 0 ⟨fun z => absurd rfl z, fun z => by rw [eo] at z; exact absurd z (by decide)⟩))
  · exact br_f (by decide) (br_t (by decide) (K29 1 ⟨fun _ => by rw [eo]; decide, fun _ => tl_n1'⟩))
  · exact br_f (by decide) (br_t (by decide) (K29 1 ⟨fun _ => by rw [eo]; decide, fun _ => tl_n1'⟩))
  · exact br_f (by decide) (br_t (by decide) (K29 1 ⟨fun _ => by rw [eo]; decide, fun _ => tl_n1'⟩))
  · exact br_f (by decide) (br_t (by decide) (K29 1 ⟨fun _ => by rw [eo]; decide, fun _ => tl_n1'⟩))
  · exact br_f (by decide) (br_t (by decide) (K29 1 ⟨fun _ => by rw [eo]; decide, fun _ => tl_n1'⟩))
  · exact br_f (by decide) (br_t (by decide) (K29 1 ⟨fun _ => by rw [eo]; decide, fun _ => tl_n1'⟩))
  · exact br_f (by decide) (br_f (by decide) (br_f (by decide) (K29 0 ⟨fun z => absurd rfl z, fun z => by rw [eo] at z; exact absurd z (by decide)⟩)))
  · exact br_f (by decide) (br_f (by decide) (br_f (by decide) (K29 0 ⟨fun z => absurd rfl z, fun z => by rw [eo] at z; exact absurd z (by decide)⟩)))
  · exact br_f (by decide) (br_f (by decide) (br_t rfl (K29 1 ⟨fun _ => by rw [eo]; decide, fun _ => tl_n1'⟩)))
  · exact br_f (by decide) (br_f (by decide) (br_f (by decide) (K29 0 ⟨fun z => absurd rfl z, fun z => by rw [eo] at z; exact absurd z (by decide)⟩)))
/-- Y: whether a line writes a variable -/
theorem ya_writes {post : Int32 → Prop} {v : Nat} (hC : cd_C a_length a_ops a_firsts a_seconds a_thirds b_as b_bs) (hk : k < 64) (h1 : an_W a_ops a_firsts k v → post 1) (h0 : ¬ an_W a_ops a_firsts k v → post 0) : wpY_writes post (g_known, g_made, g_living, g_counted, g_less, g_depth, g_begun, g_given, g_outcome, g_isShort, g_ran, g_put, g_ended, a_ops, b_as, b_bs, b_cs, b_size, b_lent, b_need, b_plans, b_keep, b_value, b_fields, b_alive, b_method, b_pc, b_variable, b_loan, b_outs, b_ends, b_todo, b_phase) (nI k) (nI v) := by
  have ck : (nI k).toNatClampNeg = k := nI_clamp (by omega)
  have vk : vp_in (nI k) 64 := vp_in_nI hk (by omega)
  obtain ⟨o, ho, eo⟩ := cd_o hC hk
  have hF : (a_ops k = 0 ∨ a_ops k = 1 ∨ a_ops k = 2 ∨ a_ops k = 3 ∨ a_ops k = 8 ∨ a_ops k = 11) → b_as k = a_firsts k := fun h => by
    obtain ⟨a, ha, ea, eb⟩ := cd_a hC hk (fun z => by rw [z] at h; exact absurd h (by decide)) (fun z => by rw [z] at h; exact absurd h (by decide))
    rw [ea, eb]
  refine And.intro vk (nm_r (e' := nI o) (by rw [ck]; exact eo) (And.intro vk ?_))
  rw [ck]
  unfold an_W at h1 h0
  rw [eo] at h1 h0 hF
  have hcase : o = 0 ∨ o = 1 ∨ o = 2 ∨ o = 3 ∨ o = 4 ∨ o = 5 ∨ o = 6 ∨ o = 7 ∨ o = 8 ∨ o = 9 ∨ o = 10 ∨ o = 11 ∨ o = 12 ∨ o = 13 := by omega
  rcases hcase with rfl | rfl | rfl | rfl | rfl | rfl | rfl | rfl | rfl | rfl | rfl | rfl | rfl | rfl
  · exact br_c (fun z => br_t (by decide) (h1 ⟨by decide, (hF (by decide)).symm.trans z⟩)) (fun z => h0 (fun g => z ((hF g.1).trans g.2)))
  · exact br_c (fun z => br_t (by decide) (h1 ⟨by decide, (hF (by decide)).symm.trans z⟩)) (fun z => h0 (fun g => z ((hF g.1).trans g.2)))
  · exact br_c (fun z => br_t (by decide) (h1 ⟨by decide, (hF (by decide)).symm.trans z⟩)) (fun z => h0 (fun g => z ((hF g.1).trans g.2)))
  · exact br_c (fun z => br_t (by decide) (h1 ⟨by decide, (hF (by decide)).symm.trans z⟩)) (fun z => h0 (fun g => z ((hF g.1).trans g.2)))
  · exact br_c (fun z => br_f (by decide) (br_f (by decide) (br_f (by decide) (h0 (fun g => absurd g.1 (by decide)))))) (fun z => h0 (fun g => absurd g.1 (by decide)))
  · exact br_c (fun z => br_f (by decide) (br_f (by decide) (br_f (by decide) (h0 (fun g => absurd g.1 (by decide)))))) (fun z => h0 (fun g => absurd g.1 (by decide)))
  · exact br_c (fun z => br_f (by decide) (br_f (by decide) (br_f (by decide) (h0 (fun g => absurd g.1 (by decide)))))) (fun z => h0 (fun g => absurd g.1 (by decide)))
  · exact br_c (fun z => br_f (by decide) (br_f (by decide) (br_f (by decide) (h0 (fun g => absurd g.1 (by decide)))))) (fun z => h0 (fun g => absurd g.1 (by decide)))
  · exact br_c (fun z => br_f (by decide) (br_t rfl (h1 ⟨by decide, (hF (by decide)).symm.trans z⟩))) (fun z => h0 (fun g => z ((hF g.1).trans g.2)))
  · exact br_c (fun z => br_f (by decide) (br_f (by decide) (br_f (by decide) (h0 (fun g => absurd g.1 (by decide)))))) (fun z => h0 (fun g => absurd g.1 (by decide)))
  · exact br_c (fun z => br_f (by decide) (br_f (by decide) (br_f (by decide) (h0 (fun g => absurd g.1 (by decide)))))) (fun z => h0 (fun g => absurd g.1 (by decide)))
  · exact br_c (fun z => br_f (by decide) (br_f (by decide) (br_t rfl (h1 ⟨by decide, (hF (by decide)).symm.trans z⟩)))) (fun z => h0 (fun g => z ((hF g.1).trans g.2)))
  · exact br_c (fun z => br_f (by decide) (br_f (by decide) (br_f (by decide) (h0 (fun g => absurd g.1 (by decide)))))) (fun z => h0 (fun g => absurd g.1 (by decide)))
  · exact br_c (fun z => br_f (by decide) (br_f (by decide) (br_f (by decide) (h0 (fun g => absurd g.1 (by decide)))))) (fun z => h0 (fun g => absurd g.1 (by decide)))
end
end
section
section
variable {f_known f_depth f_brief f_outCount f_endCount f_ups f_downs f_steps f_made f_alive f_gift f_ended f_stopped : Int32} {a_length a_lends a_ops a_firsts a_seconds a_thirds a_need a_loan a_hands a_keeps a_come a_numbers a_ints a_counts a_fields a_ending a_stage a_fMethod a_fLine a_held a_lent a_outs a_ends : Nat → Int32}
variable {g_known g_made g_living g_counted g_less g_depth g_begun g_given g_outcome g_isShort g_ran g_put g_ended : Int32} {b_ops b_as b_bs b_cs b_size b_lent b_need b_plans b_keep b_value b_fields b_alive b_method b_pc b_variable b_loan b_outs b_ends b_todo b_phase : Nat → Int32}
variable {m i l k : Nat}
/-! what is needed: the least set -/
def nd_C (a_length a_ops a_firsts a_seconds a_thirds : Nat → Int32) (m v : Nat) (T : Nat → Prop) : Prop :=
  ∀ j, j < rn_len a_length m → (an_R a_ops a_firsts a_seconds (16 * m + j) v → T j) ∧ (¬ an_W a_ops a_firsts (16 * m + j) v → ∀ k, rn_sc a_ops a_thirds m j k → k < rn_len a_length m → T k → T j)
def nd_N (a_length a_ops a_firsts a_seconds a_thirds : Nat → Int32) (m v i : Nat) : Prop := ∀ T : Nat → Prop, nd_C a_length a_ops a_firsts a_seconds a_thirds m v T → T i
def nd_F (a_length a_ops a_firsts a_seconds a_thirds : Nat → Int32) (a_need : Nat → Int32) (m v i : Nat) : Prop :=
  an_R a_ops a_firsts a_seconds (16 * m + i) v ∨ (¬ an_W a_ops a_firsts (16 * m + i) v ∧ ∃ k, rn_sc a_ops a_thirds m i k ∧ k < rn_len a_length m ∧ bt (a_need (16 * m + k)) v = true)
theorem nd_r {v : Nat} (hi : i < rn_len a_length m) (h : an_R a_ops a_firsts a_seconds (16 * m + i) v) : nd_N a_length a_ops a_firsts a_seconds a_thirds m v i := fun T hT => (hT i hi).1 h
theorem nd_s {v : Nat} (hi : i < rn_len a_length m) (h : ¬ an_W a_ops a_firsts (16 * m + i) v) (hs : rn_sc a_ops a_thirds m i k) (hk : k < rn_len a_length m) (hn : nd_N a_length a_ops a_firsts a_seconds a_thirds m v k) : nd_N a_length a_ops a_firsts a_seconds a_thirds m v i := fun T hT => (hT i hi).2 h k hs hk (hn T hT)
def nd_pc (x : Int32) : Nat := sm (fun j => if bt x j = true then 1 else 0) 16
theorem nd_pcle (x : Int32) : nd_pc x ≤ 16 := by
  have := sm_bd (f := fun j => if bt x j = true then 1 else 0) (c := 1) (n := 16) (fun j _ => by
    show (if bt x j = true then 1 else 0) ≤ 1
    split <;> omega)
  unfold nd_pc
  omega
theorem nd_pcc {x y : Int32} {j : Nat} (hj : j < 16) (hx : bt x j = true) (hy : bt y j = false) (h : ∀ k, k ≠ j → bt y k = bt x k) : nd_pc y + 1 = nd_pc x := by
  have := sm_up (f := fun j => if bt x j = true then 1 else 0) (g := fun j => if bt y j = true then 1 else 0) hj (fun k _ hk => by rw [h k hk])
  have e1 : (if bt x j = true then 1 else 0) = 1 := if_pos hx
  have e2 : (if bt y j = true then 1 else 0) = 0 := if_neg (by rw [hy]; decide)
  rw [e1, e2] at this
  unfold nd_pc
  omega
/-- X: the lines that lead to one -/
theorem xl_128 {post : SX → Prop} {J : Int32 → (Nat → Int32) → (Nat → Int32) → (Nat → Int32) → (Nat → Int32) → (Nat → Int32) → (Nat → Int32) → (Nat → Int32) → (Nat → Int32) → (Nat → Int32) → (Nat → Int32) → (Nat → Int32) → (Nat → Int32) → (Nat → Int32) → (Nat → Int32) → (Nat → Int32) → (Nat → Int32) → (Nat → Int32) → (Nat → Int32) → (Nat → Int32) → (Nat → Int32) → (Nat → Int32) → (Nat → Int32) → (Nat → Int32) → Prop} (hC : cd_C a_length a_ops a_firsts a_seconds a_thirds b_as b_bs) (hm : m < 4) (hi : i < 16) : ∀ (d j : Nat) (opn : Int32), j + d = rn_len a_length m → ∃ opn' : Int32,
    (∀ k, bt opn' k = true ↔ bt opn k = true ∨ (j ≤ k ∧ k < rn_len a_length m ∧ rn_sc a_ops a_thirds m k i)) ∧ (J opn' a_length a_lends a_ops a_firsts a_seconds a_thirds a_need a_loan a_hands a_keeps a_come a_numbers a_ints a_counts a_fields a_ending a_stage a_fMethod a_fLine a_held a_lent a_outs a_ends → wX_live_128 post J (nI m) (nI i) f_known f_depth f_brief f_outCount f_endCount f_ups f_downs f_steps f_made f_alive f_gift f_ended f_stopped a_length a_lends a_ops a_firsts a_seconds a_thirds a_need a_loan a_hands a_keeps a_come a_numbers a_ints a_counts a_fields a_ending a_stage a_fMethod a_fLine a_held a_lent a_outs a_ends (d + 1) opn (nI j)) := by
  have hl := cd_len hC hm
  have cm : (nI m).toNatClampNeg = m := nI_clamp (by omega)
  have vm : vp_in (nI m) 4 := vp_in_nI (by omega) (by omega)
  intro d
  induction d with
  | zero =>
    intro j opn hj
    refine ⟨opn, fun k => ⟨fun h => Or.inl h, fun h => h.elim id (fun g => by omega)⟩, fun h => ?_⟩
    rw [wX_live_128, cm, hl.2]
    exact ⟨vm, br_t (nI_le (by omega) (by omega)) h⟩
  | succ d ih =>
    intro j opn hj
    by_cases hs : rn_sc a_ops a_thirds m j i
    · obtain ⟨opn', h1, h2⟩ := ih (j + 1) (opn ||| ((1 : Int32) <<< (nI j &&& 31))) (by omega)
      refine ⟨opn', fun k => ?_, fun h => ?_⟩
      · rw [h1 k, bt_set _ (by omega), Bool.or_eq_true, decide_eq_true_iff]
        constructor
        · intro g
          rcases g with (g | g) | ⟨g1, g2, g3⟩
          · exact Or.inl g
          · subst g
            exact Or.inr ⟨by omega, by omega, hs⟩
          · exact Or.inr ⟨by omega, g2, g3⟩
        · intro g
          rcases g with g | ⟨g1, g2, g3⟩
          · exact Or.inl (Or.inl g)
          · by_cases z : k = j
            · exact Or.inl (Or.inr z)
            · exact Or.inr ⟨by omega, g2, g3⟩
      · rw [wX_live_128]
        refine ⟨vm, ?_⟩
        rw [cm, hl.2, tl_16]
        refine br_f (nI_ge (by omega) (by omega)) ?_
        exact xa_leads hC hm (by omega) hi (fun _ => br_f tl_n1' (nm_e (nm_r (nI_1 j) (h2 h)))) (fun z => absurd hs z)
    · obtain ⟨opn', h1, h2⟩ := ih (j + 1) opn (by omega)
      refine ⟨opn', fun k => ?_, fun h => ?_⟩
      · rw [h1 k]
        constructor
        · intro g
          rcases g with g | ⟨g1, g2, g3⟩
          · exact Or.inl g
          · exact Or.inr ⟨by omega, g2, g3⟩
        · intro g
          rcases g with g | ⟨g1, g2, g3⟩
          · exact Or.inl g
          · refine Or.inr ⟨?_, g2, g3⟩
            refine Nat.lt_of_le_of_ne g1 (fun z => hs ?_)
            rw [z]; exact g3
      · rw [wX_live_128]
        refine ⟨vm, ?_⟩
        rw [cm, hl.2, tl_16]
        refine br_f (nI_ge (by omega) (by omega)) ?_
        exact xa_leads hC hm (by omega) hi (fun z => absurd z hs) (fun _ => br_t rfl (nm_r (nI_1 j) (h2 h)))
theorem xl_hb {x : Int32} (hx : x ≠ 0) (hm : mkL 16 x) : ∃ h, h < 16 ∧ bt x h = true ∧ (∀ j, j < h → ¬ (x >>> (nI j &&& 31)) ≤ 1) ∧ (x >>> (nI h &&& 31)) ≤ 1 := by
  obtain ⟨N, hN, e⟩ := mk_of hm
  subst e
  have hN0 : N ≠ 0 := fun z => hx (by rw [z]; rfl)
  have hsh : ∀ j, j < 32 → nI N >>> (nI j &&& 31) = nI (N / 2 ^ j) := fun j hj => pk_shrN (by omega) _ j (s_l j hj)
  have hd : ∀ j, N / 2 ^ j ≤ N := fun j => Nat.div_le_self _ _
  have hN15 : N / 2 ^ 15 ≤ 1 := by omega
  obtain ⟨h, hP, hmin⟩ := pk_least (fun j => N / 2 ^ j ≤ 1) ⟨15, hN15⟩
  have hh : h ≤ 15 := Nat.le_of_not_lt (fun z => hmin 15 z hN15)
  have hP' : N / 2 ^ h ≤ 1 := hP
  have h1 : N / 2 ^ h = 1 := by
    by_cases z : h = 0
    · subst z
      have : N / 2 ^ 0 = N := by rw [Nat.pow_zero, Nat.div_one]
      omega
    · have hp := hmin (h - 1) (by omega)
      have hp' : ¬ N / 2 ^ (h - 1) ≤ 1 := hp
      have e2 : N / 2 ^ h = N / 2 ^ (h - 1) / 2 := by
        rw [Nat.div_div_eq_div_mul, ← Nat.pow_succ]
        congr 2
        omega
      omega
  refine ⟨h, by omega, ?_, fun j hj => ?_, ?_⟩
  · rw [bt_tb, pk_tn (by omega), Nat.testBit_eq_decide_div_mod_eq, h1]
    rfl
  · rw [hsh j (by omega), show (1 : Int32) = nI 1 from rfl, nI_leI (by have := hd j; omega) (by omega)]
    exact hmin j hj
  · rw [hsh h (by omega), h1]
    decide
theorem xl_47s {post : SX → Prop} {J : Int32 → (Nat → Int32) → (Nat → Int32) → (Nat → Int32) → (Nat → Int32) → (Nat → Int32) → (Nat → Int32) → (Nat → Int32) → (Nat → Int32) → (Nat → Int32) → (Nat → Int32) → (Nat → Int32) → (Nat → Int32) → (Nat → Int32) → (Nat → Int32) → (Nat → Int32) → (Nat → Int32) → (Nat → Int32) → (Nat → Int32) → (Nat → Int32) → (Nat → Int32) → (Nat → Int32) → (Nat → Int32) → (Nat → Int32) → Prop} {opn : Int32} {h : Nat} (hs : ∀ j, j < h → ¬ (opn >>> (nI j &&& 31)) ≤ 1) (hb : wX_live_47 post J (nI m) opn f_known f_depth f_brief f_outCount f_endCount f_ups f_downs f_steps f_made f_alive f_gift f_ended f_stopped a_length a_lends a_ops a_firsts a_seconds a_thirds a_need a_loan a_hands a_keeps a_come a_numbers a_ints a_counts a_fields a_ending a_stage a_fMethod a_fLine a_held a_lent a_outs a_ends 1 (nI h)) : ∀ d j, j + d = h → wX_live_47 post J (nI m) opn f_known f_depth f_brief f_outCount f_endCount f_ups f_downs f_steps f_made f_alive f_gift f_ended f_stopped a_length a_lends a_ops a_firsts a_seconds a_thirds a_need a_loan a_hands a_keeps a_come a_numbers a_ints a_counts a_fields a_ending a_stage a_fMethod a_fLine a_held a_lent a_outs a_ends (d + 1) (nI j) := by
  intro d
  induction d with
  | zero =>
    intro j hj
    have e : j = h := by omega
    subst e
    exact hb
  | succ d ih =>
    intro j hj
    rw [wX_live_47]
    exact br_f (hs j (by omega)) (nm_r (nI_1 j) (ih (j + 1) (by omega)))
def nd_I (a_length a_ops a_firsts a_seconds a_thirds : Nat → Int32) (m : Nat) (a_need : Nat → Int32) (opn : Int32) : Prop :=
  (∀ j, j < rn_len a_length m → mkL 6 (a_need (16 * m + j))) ∧ (∀ j, j < rn_len a_length m → ∀ v, bt (a_need (16 * m + j)) v = true → nd_N a_length a_ops a_firsts a_seconds a_thirds m v j) ∧
  (∀ j, j < rn_len a_length m → ∀ v, bt (a_need (16 * m + j)) v = true → nd_F a_length a_ops a_firsts a_seconds a_thirds a_need m v j) ∧ mkL (rn_len a_length m) opn ∧
  (∀ j, j < rn_len a_length m → bt opn j = false → ∀ v, v < 6 → nd_F a_length a_ops a_firsts a_seconds a_thirds a_need m v j → bt (a_need (16 * m + j)) v = true)
def nd_ms (m : Nat) (a_need : Nat → Int32) (opn : Int32) : Nat := 17 * sm (fun j => 64 - (a_need (16 * m + j)).toBitVec.toNat) 16 + nd_pc opn
def nd_OK (a_length a_ops a_firsts a_seconds a_thirds : Nat → Int32) (m : Nat) (a_need : Nat → Int32) : Prop :=
  ∀ j, j < rn_len a_length m → mkL 6 (a_need (16 * m + j)) ∧ ∀ v, v < 6 → (bt (a_need (16 * m + j)) v = true ↔ nd_N a_length a_ops a_firsts a_seconds a_thirds m v j)
theorem nd_end (h : nd_I a_length a_ops a_firsts a_seconds a_thirds m a_need 0) : nd_OK a_length a_ops a_firsts a_seconds a_thirds m a_need := by
  obtain ⟨h1, h2, h3, h4, h5⟩ := h
  intro j hj
  refine ⟨h1 j hj, fun v hv => ⟨h2 j hj v, fun hn => ?_⟩⟩
  have := hn (fun j => j < rn_len a_length m → bt (a_need (16 * m + j)) v = true) (fun j hj => ⟨fun r _ => h5 j hj (b_0 j) v hv (Or.inl r), fun w k hs hk ht _ => h5 j hj (b_0 j) v hv (Or.inr ⟨w, k, hs, hk, ht hk⟩)⟩)
  exact this hj
theorem xl_41 (hC : cd_C a_length a_ops a_firsts a_seconds a_thirds b_as b_bs) (hm : m < 4) : ∀ (μ : Nat) (a_need : Nat → Int32) (opn : Int32), nd_I a_length a_ops a_firsts a_seconds a_thirds m a_need opn → nd_ms m a_need opn ≤ μ →
    ∃ a_need' : Nat → Int32, nd_OK a_length a_ops a_firsts a_seconds a_thirds m a_need' ∧ (∀ k, (k < 16 * m ∨ 16 * m + 16 ≤ k) → a_need' k = a_need k) ∧ ∀ (post : SX → Prop) n, μ < n → post (f_known, f_depth, f_brief, f_outCount, f_endCount, f_ups, f_downs, f_steps, f_made, f_alive, f_gift, f_ended, f_stopped, a_length, a_lends, a_ops, a_firsts, a_seconds, a_thirds, a_need', a_loan, a_hands, a_keeps, a_come, a_numbers, a_ints, a_counts, a_fields, a_ending, a_stage, a_fMethod, a_fLine, a_held, a_lent, a_outs, a_ends) → wX_live_41 post (nI m) f_known f_depth f_brief f_outCount f_endCount f_ups f_downs f_steps f_made f_alive f_gift f_ended f_stopped n opn a_length a_lends a_ops a_firsts a_seconds a_thirds a_need a_loan a_hands a_keeps a_come a_numbers a_ints a_counts a_fields a_ending a_stage a_fMethod a_fLine a_held a_lent a_outs a_ends := by
  have hl := cd_len hC hm
  intro μ
  induction μ with
  | zero =>
    intro a_need opn hI hms
    by_cases ho : opn = 0
    · subst ho
      refine ⟨a_need, nd_end hI, fun _ _ => rfl, fun post n hn hp => ?_⟩
      obtain ⟨n', rfl⟩ : ∃ n', n = n' + 1 := ⟨n - 1, by omega⟩
      rw [wX_live_41]
      exact br_t rfl hp
    · exfalso
      obtain ⟨h, hh, hbt, _⟩ := xl_hb ho (mk_mono hI.2.2.2.1 hl.1)
      have := sm_ge (f := fun j => if bt opn j = true then 1 else 0) hh
      have e1 : (if bt opn h = true then 1 else 0) = 1 := if_pos hbt
      rw [e1] at this
      unfold nd_ms nd_pc at hms
      omega
  | succ μ ih =>
    intro a_need opn hI hms
    by_cases ho : opn = 0
    · subst ho
      refine ⟨a_need, nd_end hI, fun _ _ => rfl, fun post n hn hp => ?_⟩
      obtain ⟨n', rfl⟩ : ∃ n', n = n' + 1 := ⟨n - 1, by omega⟩
      rw [wX_live_41]
      exact br_t rfl hp
    · obtain ⟨i1, i2, i3, i4, i5⟩ := hI
      obtain ⟨h, hh, hbt, hsk, hle⟩ := xl_hb ho (mk_mono i4 hl.1)
      have hhl : h < rn_len a_length m := bt_lt i4 hbt
      have ck : (nI (16 * m + h)).toNatClampNeg = 16 * m + h := nI_clamp (by omega)
      have vk : vp_in (nI (16 * m + h)) 64 := vp_in_nI (by omega) (by omega)
      obtain ⟨rb, b1, b2⟩ := xa_nb (f_known := f_known) (f_depth := f_depth) (f_brief := f_brief) (f_outCount := f_outCount) (f_endCount := f_endCount) (f_ups := f_ups) (f_downs := f_downs) (f_steps := f_steps) (f_made := f_made) (f_alive := f_alive) (f_gift := f_gift) (f_ended := f_ended) (f_stopped := f_stopped) (a_lends := a_lends) (a_loan := a_loan) (a_hands := a_hands) (a_keeps := a_keeps) (a_come := a_come) (a_numbers := a_numbers) (a_ints := a_ints) (a_counts := a_counts) (a_fields := a_fields) (a_ending := a_ending) (a_stage := a_stage) (a_fMethod := a_fMethod) (a_fLine := a_fLine) (a_held := a_held) (a_lent := a_lent) (a_outs := a_outs) (a_ends := a_ends) (a_need := a_need) hC hm hhl
      obtain ⟨rw', w1, w2, w3⟩ := xa_writes (f_known := f_known) (f_depth := f_depth) (f_brief := f_brief) (f_outCount := f_outCount) (f_endCount := f_endCount) (f_ups := f_ups) (f_downs := f_downs) (f_steps := f_steps) (f_made := f_made) (f_alive := f_alive) (f_gift := f_gift) (f_ended := f_ended) (f_stopped := f_stopped) (a_lends := a_lends) (a_loan := a_loan) (a_hands := a_hands) (a_keeps := a_keeps) (a_come := a_come) (a_numbers := a_numbers) (a_ints := a_ints) (a_counts := a_counts) (a_fields := a_fields) (a_ending := a_ending) (a_stage := a_stage) (a_fMethod := a_fMethod) (a_fLine := a_fLine) (a_held := a_held) (a_lent := a_lent) (a_outs := a_outs) (a_ends := a_ends) (a_need := a_need) hC (show 16 * m + h < 64 by omega)
      obtain ⟨rr, r1, r2, r3⟩ := xa_reads (f_known := f_known) (f_depth := f_depth) (f_brief := f_brief) (f_outCount := f_outCount) (f_endCount := f_endCount) (f_ups := f_ups) (f_downs := f_downs) (f_steps := f_steps) (f_made := f_made) (f_alive := f_alive) (f_gift := f_gift) (f_ended := f_ended) (f_stopped := f_stopped) (a_lends := a_lends) (a_loan := a_loan) (a_hands := a_hands) (a_keeps := a_keeps) (a_come := a_come) (a_numbers := a_numbers) (a_ints := a_ints) (a_counts := a_counts) (a_fields := a_fields) (a_ending := a_ending) (a_stage := a_stage) (a_fMethod := a_fMethod) (a_fLine := a_fLine) (a_held := a_held) (a_lent := a_lent) (a_outs := a_outs) (a_ends := a_ends) (a_need := a_need) hC (show 16 * m + h < 64 by omega)
      obtain ⟨set, eset⟩ : ∃ s, s = (rb &&& (rw' ^^^ (-1))) ||| rr := ⟨_, rfl⟩
      have hrb : mkL 6 rb := fun v hv => by
        cases z : bt rb v
        · rfl
        · obtain ⟨k, _, hk, hk2⟩ := (b1 v).mp z
          rw [i1 k hk v hv] at hk2
          exact absurd hk2 (by decide)
      have hset6 : mkL 6 set := by rw [eset]; exact mk_or (mk_and hrb) r1
      have hset : ∀ v, v < 6 → (bt set v = true ↔ nd_F a_length a_ops a_firsts a_seconds a_thirds a_need m v h) := fun v hv => by
        rw [eset, b_or, bt_nd, Bool.or_eq_true, Bool.and_eq_true, b1 v, r2 v]
        unfold nd_F
        constructor
        · intro g
          rcases g with ⟨g1, g2⟩ | ⟨g, _⟩
          · refine Or.inr ⟨fun w => ?_, g1⟩
            rw [(w2 v).mpr ⟨w, hv⟩] at g2
            exact absurd g2 (by decide)
          · exact Or.inl g
        · intro g
          rcases g with g | ⟨g1, g2⟩
          · exact Or.inr ⟨g, hv⟩
          · refine Or.inl ⟨g2, ?_⟩
            cases z : bt rw' v
            · rfl
            · exact absurd ((w2 v).mp z).1 g1
      have hclr : ∀ k, bt (opn &&& (((1 : Int32) <<< (nI h &&& 31)) ^^^ (-1))) k = (bt opn k && !decide (k = h)) := fun k => bt_clr opn (by omega) k
      -- X's walk to the end of the body
      have KX : ∀ (post : SX → Prop) (J : Int32 → (Nat → Int32) → (Nat → Int32) → (Nat → Int32) → (Nat → Int32) → (Nat → Int32) → (Nat → Int32) → (Nat → Int32) → (Nat → Int32) → (Nat → Int32) → (Nat → Int32) → (Nat → Int32) → (Nat → Int32) → (Nat → Int32) → (Nat → Int32) → (Nat → Int32) → (Nat → Int32) → (Nat → Int32) → (Nat → Int32) → (Nat → Int32) → (Nat → Int32) → (Nat → Int32) → (Nat → Int32) → (Nat → Int32) → Prop), ((set = a_need (16 * m + h) → J (opn &&& (((1 : Int32) <<< (nI h &&& 31)) ^^^ (-1))) a_length a_lends a_ops a_firsts a_seconds a_thirds a_need a_loan a_hands a_keeps a_come a_numbers a_ints a_counts a_fields a_ending a_stage a_fMethod a_fLine a_held a_lent a_outs a_ends) ∧ (¬ set = a_need (16 * m + h) → ∃ n128, wX_live_128 post J (nI m) (nI h) f_known f_depth f_brief f_outCount f_endCount f_ups f_downs f_steps f_made f_alive f_gift f_ended f_stopped a_length a_lends a_ops a_firsts a_seconds a_thirds (upd a_need (16 * m + h) set) a_loan a_hands a_keeps a_come a_numbers a_ints a_counts a_fields a_ending a_stage a_fMethod a_fLine a_held a_lent a_outs a_ends n128 (opn &&& (((1 : Int32) <<< (nI h &&& 31)) ^^^ (-1))) 0)) → ∃ n47, wX_live_47 post J (nI m) opn f_known f_depth f_brief f_outCount f_endCount f_ups f_downs f_steps f_made f_alive f_gift f_ended f_stopped a_length a_lends a_ops a_firsts a_seconds a_thirds a_need a_loan a_hands a_keeps a_come a_numbers a_ints a_counts a_fields a_ending a_stage a_fMethod a_fLine a_held a_lent a_outs a_ends n47 0 := by
        intro post J hJ
        refine ⟨h + 1, xl_47s hsk ?_ h 0 (by omega)⟩
        rw [wX_live_47]
        refine br_t hle (nm_e (nm_r (tl_16 m h) ?_))
        refine b2 _ ?_
        refine w3 _ ?_
        refine r3 _ ?_
        refine nm_r eset.symm ⟨vk, ?_⟩
        rw [ck]
        refine ⟨hJ.1, fun z => ⟨vk, nm_r (e' := upd a_need (16 * m + h) set) ?_ (hJ.2 z)⟩⟩
        rw [mk_nb hset6]
      by_cases hs : set = a_need (16 * m + h)
      · have hI' : nd_I a_length a_ops a_firsts a_seconds a_thirds m a_need (opn &&& (((1 : Int32) <<< (nI h &&& 31)) ^^^ (-1))) := by
          refine ⟨i1, i2, i3, mk_and i4, fun j hj hb v hv hF => ?_⟩
          by_cases z : j = h
          · subst z
            rw [← hs]
            exact (hset v hv).mpr hF
          · refine i5 j hj ?_ v hv hF
            rw [hclr j, decide_eq_false z] at hb
            simpa using hb
        have hpc := nd_pcc (y := opn &&& (((1 : Int32) <<< (nI h &&& 31)) ^^^ (-1))) hh hbt (by rw [hclr, decide_eq_true rfl]; simp) (fun k hk => by rw [hclr, decide_eq_false hk]; simp)
        obtain ⟨a_need', hOK, hfr, hX⟩ := ih a_need _ hI' (by unfold nd_ms at hms ⊢; omega)
        refine ⟨a_need', hOK, hfr, fun post n hn hp => ?_⟩
        obtain ⟨n', rfl⟩ : ∃ n', n = n' + 1 := ⟨n - 1, by omega⟩
        rw [wX_live_41]
        exact br_f ho (KX post _ ⟨fun _ => hX post n' (by omega) hp, fun z => absurd hs z⟩)
      · obtain ⟨opn', ho1, ho2⟩ := xl_128 (post := fun _ => True) (J := fun _ _ _ _ _ _ _ _ _ _ _ _ _ _ _ _ _ _ _ _ _ _ _ _ => True) (f_known := f_known) (f_depth := f_depth) (f_brief := f_brief) (f_outCount := f_outCount) (f_endCount := f_endCount) (f_ups := f_ups) (f_downs := f_downs) (f_steps := f_steps) (f_made := f_made) (f_alive := f_alive) (f_gift := f_gift) (f_ended := f_ended) (f_stopped := f_stopped) (a_lends := a_lends) (a_loan := a_loan) (a_hands := a_hands) (a_keeps := a_keeps) (a_come := a_come) (a_numbers := a_numbers) (a_ints := a_ints) (a_counts := a_counts) (a_fields := a_fields) (a_ending := a_ending) (a_stage := a_stage) (a_fMethod := a_fMethod) (a_fLine := a_fLine) (a_held := a_held) (a_lent := a_lent) (a_outs := a_outs) (a_ends := a_ends) (a_need := upd a_need (16 * m + h) set) (i := h) hC hm hh (rn_len a_length m) 0 (opn &&& (((1 : Int32) <<< (nI h &&& 31)) ^^^ (-1))) (by omega)
        have hup : ∀ v, bt (a_need (16 * m + h)) v = true → bt set v = true := fun v hb => (hset v (bt_lt (i1 h hhl) hb)).mpr (i3 h hhl v hb)
        have hmono : ∀ j v, bt (a_need (16 * m + j)) v = true → bt ((upd a_need (16 * m + h) set) (16 * m + j)) v = true := fun j v hb => by
          by_cases z : j = h
          · rw [z, tl_us]; rw [z] at hb; exact hup v hb
          · rw [tl_un (by omega)]; exact hb
        have hFm : ∀ j v, nd_F a_length a_ops a_firsts a_seconds a_thirds a_need m v j → nd_F a_length a_ops a_firsts a_seconds a_thirds (upd a_need (16 * m + h) set) m v j := fun j v hF => by
          rcases hF with hF | ⟨hw, k, hs', hk, hb⟩
          · exact Or.inl hF
          · exact Or.inr ⟨hw, k, hs', hk, hmono k v hb⟩
        have hI' : nd_I a_length a_ops a_firsts a_seconds a_thirds m (upd a_need (16 * m + h) set) opn' := by
          refine ⟨fun j hj => ?_, fun j hj v hb => ?_, fun j hj v hb => ?_, fun k hk => ?_, fun j hj hb v hv hF => ?_⟩
          · by_cases z : j = h
            · rw [z, tl_us]; exact hset6
            · rw [tl_un (by omega)]; exact i1 j hj
          · by_cases z : j = h
            · subst z
              rw [tl_us] at hb
              rcases (hset v (bt_lt hset6 hb)).mp hb with hF | ⟨hw, k, hs', hk, hb'⟩
              · exact nd_r hj hF
              · exact nd_s hj hw hs' hk (i2 k hk v hb')
            · rw [tl_un (by omega)] at hb
              exact i2 j hj v hb
          · by_cases z : j = h
            · subst z
              rw [tl_us] at hb
              exact hFm j v ((hset v (bt_lt hset6 hb)).mp hb)
            · rw [tl_un (by omega)] at hb
              exact hFm j v (i3 j hj v hb)
          · cases z : bt opn' k
            · rfl
            · rcases (ho1 k).mp z with g | ⟨_, g, _⟩
              · rw [hclr k, i4 k hk, Bool.false_and] at g
                exact absurd g (by decide)
              · omega
          · have hns : ¬ rn_sc a_ops a_thirds m j h := fun s => by
              have := (ho1 j).mpr (Or.inr ⟨by omega, hj, s⟩)
              rw [hb] at this
              exact absurd this (by decide)
            have hF' : nd_F a_length a_ops a_firsts a_seconds a_thirds a_need m v j := by
              rcases hF with hF | ⟨hw, k, hs', hk, hb'⟩
              · exact Or.inl hF
              · have hkh : k ≠ h := fun z => hns (by rw [← z]; exact hs')
                rw [tl_un (by omega)] at hb'
                exact Or.inr ⟨hw, k, hs', hk, hb'⟩
            by_cases z : j = h
            · subst z
              rw [tl_us]
              exact (hset v hv).mpr hF'
            · rw [tl_un (by omega)]
              refine i5 j hj ?_ v hv hF'
              cases q : bt opn j
              · rfl
              · have := (ho1 j).mpr (Or.inl (by rw [hclr j, q, decide_eq_false z]; rfl))
                rw [hb] at this
                exact absurd this (by decide)
        have hlt : (a_need (16 * m + h)).toBitVec.toNat < set.toBitVec.toNat := mk_lt hup hs
        have h64 := mk_64 hset6
        have hsum := sm_up (f := fun j => 64 - (a_need (16 * m + j)).toBitVec.toNat) (g := fun j => 64 - ((upd a_need (16 * m + h) set) (16 * m + j)).toBitVec.toNat) hh (fun j _ hj => by
          show 64 - ((upd a_need (16 * m + h) set) (16 * m + j)).toBitVec.toNat = 64 - (a_need (16 * m + j)).toBitVec.toNat
          rw [tl_un (by omega)])
        rw [tl_us] at hsum
        have hpc := nd_pcle opn'
        obtain ⟨a_need', hOK, hfr, hX⟩ := ih (upd a_need (16 * m + h) set) opn' hI' (by unfold nd_ms at hms ⊢; omega)
        refine ⟨a_need', hOK, fun k hk => ?_, fun post n hn hp => ?_⟩
        · rw [hfr k hk, tl_un (by omega)]
        · obtain ⟨n', rfl⟩ : ∃ n', n = n' + 1 := ⟨n - 1, by omega⟩
          rw [wX_live_41]
          refine br_f ho (KX post _ ⟨fun z => absurd z hs, fun _ => ?_⟩)
          obtain ⟨opn2, ho3, ho4⟩ := xl_128 (post := post) (J := wX_live_41 post (nI m) f_known f_depth f_brief f_outCount f_endCount f_ups f_downs f_steps f_made f_alive f_gift f_ended f_stopped n') (f_known := f_known) (f_depth := f_depth) (f_brief := f_brief) (f_outCount := f_outCount) (f_endCount := f_endCount) (f_ups := f_ups) (f_downs := f_downs) (f_steps := f_steps) (f_made := f_made) (f_alive := f_alive) (f_gift := f_gift) (f_ended := f_ended) (f_stopped := f_stopped) (a_lends := a_lends) (a_loan := a_loan) (a_hands := a_hands) (a_keeps := a_keeps) (a_come := a_come) (a_numbers := a_numbers) (a_ints := a_ints) (a_counts := a_counts) (a_fields := a_fields) (a_ending := a_ending) (a_stage := a_stage) (a_fMethod := a_fMethod) (a_fLine := a_fLine) (a_held := a_held) (a_lent := a_lent) (a_outs := a_outs) (a_ends := a_ends) (a_need := upd a_need (16 * m + h) set) (i := h) hC hm hh (rn_len a_length m) 0 (opn &&& (((1 : Int32) <<< (nI h &&& 31)) ^^^ (-1))) (by omega)
          have eo : opn2 = opn' := b_ext (fun k _ => by
            have := (ho1 k).trans (ho3 k).symm
            cases q : bt opn' k
            · cases q2 : bt opn2 k
              · rfl
              · exact absurd (this.mpr q2) (by rw [q]; decide)
            · exact this.mp q)
          rw [eo] at ho4
          exact ⟨_, ho4 (hX post n' (by omega) hp)⟩
end
end
section
section
variable {f_known f_depth f_brief f_outCount f_endCount f_ups f_downs f_steps f_made f_alive f_gift f_ended f_stopped : Int32} {a_length a_lends a_ops a_firsts a_seconds a_thirds a_need a_loan a_hands a_keeps a_come a_numbers a_ints a_counts a_fields a_ending a_stage a_fMethod a_fLine a_held a_lent a_outs a_ends : Nat → Int32}
variable {g_known g_made g_living g_counted g_less g_depth g_begun g_given g_outcome g_isShort g_ran g_put g_ended : Int32} {b_ops b_as b_bs b_cs b_size b_lent b_need b_plans b_keep b_value b_fields b_alive b_method b_pc b_variable b_loan b_outs b_ends b_todo b_phase : Nat → Int32}
variable {m i l k : Nat}
theorem xl_13 {post : SX → Prop} {opn : Int32} (hC : cd_C a_length a_ops a_firsts a_seconds a_thirds b_as b_bs) (hm : m < 4) (h : ∃ n41, wX_live_41 post (nI m) f_known f_depth f_brief f_outCount f_endCount f_ups f_downs f_steps f_made f_alive f_gift f_ended f_stopped n41 opn a_length a_lends a_ops a_firsts a_seconds a_thirds (fun j => if 16 * m ≤ j ∧ j < 16 * m + rn_len a_length m then 0 else a_need j) a_loan a_hands a_keeps a_come a_numbers a_ints a_counts a_fields a_ending a_stage a_fMethod a_fLine a_held a_lent a_outs a_ends) : ∀ (d j : Nat) (n2 : Nat → Int32), j + d = rn_len a_length m → (∀ k, (if 16 * m + j ≤ k ∧ k < 16 * m + rn_len a_length m then 0 else n2 k) = if 16 * m ≤ k ∧ k < 16 * m + rn_len a_length m then 0 else a_need k) →
    wX_live_13 post (nI m) opn f_known f_depth f_brief f_outCount f_endCount f_ups f_downs f_steps f_made f_alive f_gift f_ended f_stopped (d + 1) (nI j) a_length a_lends a_ops a_firsts a_seconds a_thirds n2 a_loan a_hands a_keeps a_come a_numbers a_ints a_counts a_fields a_ending a_stage a_fMethod a_fLine a_held a_lent a_outs a_ends := by
  have hl := cd_len hC hm
  have cm : (nI m).toNatClampNeg = m := nI_clamp (by omega)
  have vm : vp_in (nI m) 4 := vp_in_nI (by omega) (by omega)
  intro d
  induction d with
  | zero =>
    intro j n2 hj hs
    have en : n2 = fun j => if 16 * m ≤ j ∧ j < 16 * m + rn_len a_length m then 0 else a_need j := by
      funext k
      rw [← hs k, if_neg (by omega)]
    rw [wX_live_13, en]
    refine ⟨vm, br_t ?_ h⟩
    rw [cm, hl.2]
    exact nI_le (by omega) (by omega)
  | succ d ih =>
    intro j n2 hj hs
    have ck : (nI (16 * m + j)).toNatClampNeg = 16 * m + j := nI_clamp (by omega)
    rw [wX_live_13]
    refine ⟨vm, br_f ?_ ?_⟩
    · rw [cm, hl.2]
      exact nI_ge (by omega) (by omega)
    · rw [tl_16, ck, tl_nb0]
      refine ⟨vp_in_nI (by omega) (by omega), nm_e (nm_r (nI_1 j) (ih (j + 1) _ (by omega) (fun k => ?_)))⟩
      rw [← hs k]
      by_cases z : k = 16 * m + j
      · rw [z, tl_us, if_neg (by omega), if_pos (by omega)]
      · rw [tl_un z]
        by_cases z2 : 16 * m + j ≤ k ∧ k < 16 * m + rn_len a_length m
        · rw [if_pos z2, if_pos (by omega)]
        · rw [if_neg z2, if_neg (by omega)]
/-- X finds what is needed in a method -/
theorem xa_live (hC : cd_C a_length a_ops a_firsts a_seconds a_thirds b_as b_bs) (hm : m < 4) : ∃ a_need' : Nat → Int32, nd_OK a_length a_ops a_firsts a_seconds a_thirds m a_need' ∧ (∀ k, (k < 16 * m ∨ 16 * m + 16 ≤ k) → a_need' k = a_need k) ∧ ∀ post : SX → Prop, post (f_known, f_depth, f_brief, f_outCount, f_endCount, f_ups, f_downs, f_steps, f_made, f_alive, f_gift, f_ended, f_stopped, a_length, a_lends, a_ops, a_firsts, a_seconds, a_thirds, a_need', a_loan, a_hands, a_keeps, a_come, a_numbers, a_ints, a_counts, a_fields, a_ending, a_stage, a_fMethod, a_fLine, a_held, a_lent, a_outs, a_ends) → wpX_live post (f_known, f_depth, f_brief, f_outCount, f_endCount, f_ups, f_downs, f_steps, f_made, f_alive, f_gift, f_ended, f_stopped, a_length, a_lends, a_ops, a_firsts, a_seconds, a_thirds, a_need, a_loan, a_hands, a_keeps, a_come, a_numbers, a_ints, a_counts, a_fields, a_ending, a_stage, a_fMethod, a_fLine, a_held, a_lent, a_outs, a_ends) (nI m) := by
  have hl := cd_len hC hm
  have cm : (nI m).toNatClampNeg = m := nI_clamp (by omega)
  have vm : vp_in (nI m) 4 := vp_in_nI (by omega) (by omega)
  have hz : ∀ j, j < rn_len a_length m → (fun j => if 16 * m ≤ j ∧ j < 16 * m + rn_len a_length m then 0 else a_need j) (16 * m + j) = 0 := fun j hj => if_pos (by omega)
  have hI : nd_I a_length a_ops a_firsts a_seconds a_thirds m (fun j => if 16 * m ≤ j ∧ j < 16 * m + rn_len a_length m then 0 else a_need j) (((1 : Int32) <<< (nI (rn_len a_length m) &&& 31)) - 1) := by
    refine ⟨fun j hj => by rw [hz j hj]; exact mk_0 6, fun j hj v hb => ?_, fun j hj v hb => ?_, fun k hk => ?_, fun j hj hb => ?_⟩
    · rw [hz j hj, b_0] at hb
      exact absurd hb (by decide)
    · rw [hz j hj, b_0] at hb
      exact absurd hb (by decide)
    · rw [bt_low hl.1, decide_eq_false (by omega)]
    · rw [bt_low hl.1, decide_eq_true hj] at hb
      exact absurd hb (by decide)
  obtain ⟨a_need', hOK, hfr, hX⟩ := xl_41 (f_known := f_known) (f_depth := f_depth) (f_brief := f_brief) (f_outCount := f_outCount) (f_endCount := f_endCount) (f_ups := f_ups) (f_downs := f_downs) (f_steps := f_steps) (f_made := f_made) (f_alive := f_alive) (f_gift := f_gift) (f_ended := f_ended) (f_stopped := f_stopped) (a_lends := a_lends) (a_loan := a_loan) (a_hands := a_hands) (a_keeps := a_keeps) (a_come := a_come) (a_numbers := a_numbers) (a_ints := a_ints) (a_counts := a_counts) (a_fields := a_fields) (a_ending := a_ending) (a_stage := a_stage) (a_fMethod := a_fMethod) (a_fLine := a_fLine) (a_held := a_held) (a_lent := a_lent) (a_outs := a_outs) (a_ends := a_ends) hC hm _ _ _ hI (Nat.le_refl _)
  refine ⟨a_need', hOK, fun k hk => ?_, fun post hp => And.intro vm (nm_r (e' := ((1 : Int32) <<< (nI (rn_len a_length m) &&& 31)) - 1) (by rw [cm, hl.2]) ⟨rn_len a_length m + 1, ?_⟩)⟩
  · rw [hfr k hk, if_neg (by omega)]
  · exact xl_13 hC hm ⟨_, hX post _ (Nat.lt_succ_self _) hp⟩ (rn_len a_length m) 0 a_need (by omega) (fun k => by rw [Nat.add_zero])
/-! Y: one variable, one line -/
theorem yl_lb {x : Int32} (hx : x ≠ 0) : ∃ h, h < 32 ∧ bt x h = true ∧ ∀ j, j < h → bt x j = false := by
  obtain ⟨i, hi, hb⟩ := bt_ex hx
  obtain ⟨h, hP, hmin⟩ := pk_least (fun j => bt x j = true) ⟨i, hb⟩
  refine ⟨h, bt_32 hP, hP, fun j hj => ?_⟩
  cases z : bt x j
  · rfl
  · exact absurd z (hmin j hj)
theorem yl_16s {post : Int32 → Prop} {J : Int32 → Int32 → Prop} {x3 seen opn : Int32} {h : Nat} (hh : h < 32) (hs : ∀ j, j < h → bt opn j = false) (hb : wY_isNeeded_16 post J (nI m) x3 seen opn g_known g_made g_living g_counted g_less g_depth g_begun g_given g_outcome g_isShort g_ran g_put g_ended b_ops b_as b_bs b_cs b_size b_lent b_need b_plans b_keep b_value b_fields b_alive b_method b_pc b_variable b_loan b_outs b_ends b_todo b_phase 1 (nI h)) : ∀ d j, j + d = h → wY_isNeeded_16 post J (nI m) x3 seen opn g_known g_made g_living g_counted g_less g_depth g_begun g_given g_outcome g_isShort g_ran g_put g_ended b_ops b_as b_bs b_cs b_size b_lent b_need b_plans b_keep b_value b_fields b_alive b_method b_pc b_variable b_loan b_outs b_ends b_todo b_phase (d + 1) (nI j) := by
  intro d
  induction d with
  | zero =>
    intro j hj
    have e : j = h := by omega
    subst e
    exact hb
  | succ d ih =>
    intro j hj
    rw [wY_isNeeded_16]
    exact br_t ((bt_has0 _ (by omega)).mpr (hs j (by omega))) (nm_r (nI_1 j) (ih (j + 1) (by omega)))
theorem yl_8 {post : Int32 → Prop} {v i0 : Nat} (hC : cd_C a_length a_ops a_firsts a_seconds a_thirds b_as b_bs) (hm : m < 4) (hv : v < 6) (hi0 : i0 < rn_len a_length m) (h1 : nd_N a_length a_ops a_firsts a_seconds a_thirds m v i0 → post 1) (h0 : ¬ nd_N a_length a_ops a_firsts a_seconds a_thirds m v i0 → post 0) : ∀ (μ : Nat) (seen opn : Int32),
    mkL (rn_len a_length m) seen → mkL (rn_len a_length m) opn → (∀ j, bt opn j = true → bt seen j = false) → (∀ j, bt opn j = true ∨ bt seen j = true → nd_N a_length a_ops a_firsts a_seconds a_thirds m v j → nd_N a_length a_ops a_firsts a_seconds a_thirds m v i0) →
    (∀ j, bt seen j = true → ¬ an_R a_ops a_firsts a_seconds (16 * m + j) v ∧ (¬ an_W a_ops a_firsts (16 * m + j) v → ∀ k, rn_sc a_ops a_thirds m j k → k < rn_len a_length m → bt seen k = true ∨ bt opn k = true)) →
    (bt opn i0 = true ∨ bt seen i0 = true) → 16 ≤ μ + nd_pc seen → ∀ n, μ < n → wY_isNeeded_8 post (nI m) (nI v) g_known g_made g_living g_counted g_less g_depth g_begun g_given g_outcome g_isShort g_ran g_put g_ended a_ops b_as b_bs a_thirds a_length b_lent b_need b_plans b_keep b_value b_fields b_alive b_method b_pc b_variable b_loan b_outs b_ends b_todo b_phase n seen opn := by
  have hl := cd_len hC hm
  have hend : ∀ seen : Int32, (∀ j, bt seen j = true → ¬ an_R a_ops a_firsts a_seconds (16 * m + j) v ∧ (¬ an_W a_ops a_firsts (16 * m + j) v → ∀ k, rn_sc a_ops a_thirds m j k → k < rn_len a_length m → bt seen k = true ∨ bt (0 : Int32) k = true)) → (bt (0 : Int32) i0 = true ∨ bt seen i0 = true) → post 0 := by
    intro seen hb hc
    refine h0 (fun hn => ?_)
    have hs0 : bt seen i0 = true := by
      rcases hc with hc | hc
      · rw [b_0] at hc; exact absurd hc (by decide)
      · exact hc
    refine hn (fun j => bt seen j ≠ true) (fun j hj => ⟨fun hr hz => (hb j hz).1 hr, fun hw k hs hk ht hz => ?_⟩) hs0
    rcases (hb j hz).2 hw k hs hk with q | q
    · exact ht q
    · rw [b_0] at q; exact absurd q (by decide)
  intro μ
  induction μ with
  | zero =>
    intro seen opn hs ho hdj ha hb hc hμ n hn
    obtain ⟨n', rfl⟩ : ∃ n', n = n' + 1 := ⟨n - 1, by omega⟩
    have hop : opn = 0 := by
      refine Classical.byContradiction (fun hne => ?_)
      obtain ⟨h, hh, hbt, _⟩ := yl_lb hne
      have hhl := bt_lt ho hbt
      have hns := hdj h hbt
      have : nd_pc seen < 16 := by
        have hu := sm_up (f := fun j => if bt seen j = true then 1 else 0) (g := fun _ => 1) (k := h) (n := 16) 
        have hle := sm_le (f := fun j => if bt seen j = true then 1 else 0) (g := fun j => if j = h then 0 else 1) (n := 16) (fun j _ => by
          show (if bt seen j = true then 1 else 0) ≤ if j = h then 0 else 1
          by_cases z : j = h
          · rw [z, if_neg (by rw [hns]; decide), if_pos rfl]; omega
          · rw [if_neg z]; split <;> omega)
        have h2 := sm_up (f := fun _ => 1) (g := fun j => if j = h then 0 else 1) (k := h) (n := 16) (by omega) (fun j _ hj => if_neg hj)
        have e3 : sm (fun _ => 1) 16 = 16 := rfl
        have e4 : (fun j => if j = h then 0 else 1) h = 0 := if_pos rfl
        unfold nd_pc
        simp only [if_true] at h2
        omega
      omega
    subst hop
    rw [wY_isNeeded_8]
    exact br_t rfl (hend seen hb hc)
  | succ μ ih =>
    intro seen opn hs ho hdj ha hb hc hμ n hn
    obtain ⟨n', rfl⟩ : ∃ n', n = n' + 1 := ⟨n - 1, by omega⟩
    rw [wY_isNeeded_8]
    by_cases hop : opn = 0
    · subst hop
      exact br_t rfl (hend seen hb hc)
    · obtain ⟨h, hh, hbt, hlow⟩ := yl_lb hop
      have hhl := bt_lt ho hbt
      have hns := hdj h hbt
      have hclr : ∀ k, bt (opn &&& (((1 : Int32) <<< (nI h &&& 31)) ^^^ (-1))) k = (bt opn k && !decide (k = h)) := fun k => bt_clr opn (by omega) k
      have hset : ∀ k, bt (seen ||| ((1 : Int32) <<< (nI h &&& 31))) k = (bt seen k || decide (k = h)) := fun k => bt_set seen (by omega) k
      have hpc : nd_pc seen + 1 = nd_pc (seen ||| ((1 : Int32) <<< (nI h &&& 31))) := nd_pcc (by omega) (by rw [hset, decide_eq_true rfl, Bool.or_true]) hns (fun k hk => by rw [hset, decide_eq_false hk, Bool.or_false])
      have hs' : mkL (rn_len a_length m) (seen ||| ((1 : Int32) <<< (nI h &&& 31))) := mk_or hs (mk_one hhl (by omega))
      have ho' : mkL (rn_len a_length m) (opn &&& (((1 : Int32) <<< (nI h &&& 31)) ^^^ (-1))) := mk_and ho
      have hreach : nd_N a_length a_ops a_firsts a_seconds a_thirds m v h → nd_N a_length a_ops a_firsts a_seconds a_thirds m v i0 := ha h (Or.inl hbt)
      obtain ⟨ra, e1, e2⟩ := ya_after (g_known := g_known) (g_made := g_made) (g_living := g_living) (g_counted := g_counted) (g_less := g_less) (g_depth := g_depth) (g_begun := g_begun) (g_given := g_given) (g_outcome := g_outcome) (g_isShort := g_isShort) (g_ran := g_ran) (g_put := g_put) (g_ended := g_ended) (b_lent := b_lent) (b_need := b_need) (b_plans := b_plans) (b_keep := b_keep) (b_value := b_value) (b_fields := b_fields) (b_alive := b_alive) (b_method := b_method) (b_pc := b_pc) (b_variable := b_variable) (b_loan := b_loan) (b_outs := b_outs) (b_ends := b_ends) (b_todo := b_todo) (b_phase := b_phase) (i := h) hC hm (by omega)
      refine br_f hop ⟨h + 1, yl_16s hh hlow ?_ h 0 (by omega)⟩
      rw [wY_isNeeded_16]
      refine br_f (fun z => by rw [bt_has0 _ hh, hbt] at z; exact absurd z (by decide)) (nm_e (nm_e ?_))
      rw [tl_16]
      refine ya_reads hC (by omega) (fun hr => br_f tl_n1' (h1 (hreach (nd_r hhl hr)))) (fun hr => br_t rfl ?_)
      refine ya_writes hC (by omega) (fun hw => br_f tl_n1' ?_) (fun hw => br_t rfl ?_)
      · refine ih _ _ hs' ho' (fun j hj => ?_) (fun j hj => ?_) (fun j hj => ?_) ?_ (by omega) n' (by omega)
        · rw [hclr, Bool.and_eq_true] at hj
          obtain ⟨q1, q2⟩ := hj
          have hne : j ≠ h := fun z => by rw [decide_eq_true z] at q2; exact absurd q2 (by decide)
          rw [hset, hdj j q1, decide_eq_false hne]; rfl
        · rw [hclr, hset, Bool.and_eq_true, Bool.or_eq_true, decide_eq_true_iff] at hj
          rcases hj with q | q | q
          · exact ha j (Or.inl q.1)
          · exact ha j (Or.inr q)
          · rw [q]; exact hreach
        · rw [hset, Bool.or_eq_true, decide_eq_true_iff] at hj
          by_cases z : j = h
          · rw [z]; exact ⟨hr, fun q => absurd hw q⟩
          · rcases hj with q | q
            · refine ⟨(hb j q).1, fun w k s hk => ?_⟩
              rw [hset, hclr, Bool.or_eq_true, Bool.and_eq_true, decide_eq_true_iff]
              rcases (hb j q).2 w k s hk with g | g
              · exact Or.inl (Or.inl g)
              · by_cases y : k = h
                · exact Or.inl (Or.inr y)
                · exact Or.inr ⟨g, by rw [decide_eq_false y]; rfl⟩
            · exact absurd q z
        · rw [hset, hclr, Bool.or_eq_true, Bool.and_eq_true, decide_eq_true_iff]
          by_cases y : i0 = h
          · exact Or.inr (Or.inr y)
          · rcases hc with g | g
            · exact Or.inl ⟨g, by rw [decide_eq_false y]; rfl⟩
            · exact Or.inr (Or.inl g)
      · refine e2 _ (nm_e ?_)
        have hnew : ∀ k, bt ((opn &&& (((1 : Int32) <<< (nI h &&& 31)) ^^^ (-1))) ||| (ra &&& ((seen ||| ((1 : Int32) <<< (nI h &&& 31))) ^^^ (-1)))) k = true ↔ (bt opn k = true ∧ k ≠ h) ∨ ((rn_sc a_ops a_thirds m h k ∧ k < rn_len a_length m) ∧ bt seen k = false ∧ k ≠ h) := fun k => by
          rw [b_or, hclr, bt_nd, hset, Bool.or_eq_true, Bool.and_eq_true, Bool.and_eq_true, e1 k]
          constructor
          · intro g
            rcases g with ⟨g1, g2⟩ | ⟨g1, g2⟩
            · exact Or.inl ⟨g1, fun z => by rw [decide_eq_true z] at g2; exact absurd g2 (by decide)⟩
            · refine Or.inr ⟨g1, ?_, fun z => ?_⟩
              · cases q : bt seen k
                · rfl
                · rw [q] at g2; exact absurd g2 (by simp)
              · rw [decide_eq_true z] at g2; exact absurd g2 (by simp)
          · intro g
            rcases g with ⟨g1, g2⟩ | ⟨g1, g2, g3⟩
            · exact Or.inl ⟨g1, by rw [decide_eq_false g2]; rfl⟩
            · exact Or.inr ⟨g1, by rw [g2, decide_eq_false g3]; rfl⟩
        have hset' : ∀ k, bt (seen ||| ((1 : Int32) <<< (nI h &&& 31))) k = true ↔ bt seen k = true ∨ k = h := fun k => by rw [hset, Bool.or_eq_true, decide_eq_true_iff]
        refine ih _ _ hs' (fun k hk => ?_) (fun j hj => ?_) (fun j hj => ?_) (fun j hj => ?_) ?_ (by omega) n' (by omega)
        · cases q : bt ((opn &&& (((1 : Int32) <<< (nI h &&& 31)) ^^^ (-1))) ||| (ra &&& ((seen ||| ((1 : Int32) <<< (nI h &&& 31))) ^^^ (-1)))) k
          · rfl
          · rcases (hnew k).mp q with ⟨g, _⟩ | ⟨⟨_, g⟩, _⟩
            · rw [ho k hk] at g; exact absurd g (by decide)
            · omega
        · rcases (hnew j).mp hj with ⟨g, g2⟩ | ⟨_, g, g2⟩
          · rw [hset, hdj j g, decide_eq_false g2]; rfl
          · rw [hset, g, decide_eq_false g2]; rfl
        · intro hn'
          rcases hj with hj | hj
          · rcases (hnew j).mp hj with ⟨g, _⟩ | ⟨⟨g1, g2⟩, _⟩
            · exact ha j (Or.inl g) hn'
            · exact hreach (nd_s hhl hw g1 g2 hn')
          · rcases (hset' j).mp hj with g | g
            · exact ha j (Or.inr g) hn'
            · rw [g] at hn'; exact hreach hn'
        · have hcov : ∀ k, rn_sc a_ops a_thirds m h k → k < rn_len a_length m → bt (seen ||| ((1 : Int32) <<< (nI h &&& 31))) k = true ∨ bt ((opn &&& (((1 : Int32) <<< (nI h &&& 31)) ^^^ (-1))) ||| (ra &&& ((seen ||| ((1 : Int32) <<< (nI h &&& 31))) ^^^ (-1)))) k = true := fun k s hk => by
            by_cases y : k = h
            · exact Or.inl ((hset' k).mpr (Or.inr y))
            · cases q : bt seen k
              · exact Or.inr ((hnew k).mpr (Or.inr ⟨⟨s, hk⟩, q, y⟩))
              · exact Or.inl ((hset' k).mpr (Or.inl q))
          by_cases z : j = h
          · rw [z]; exact ⟨hr, fun _ => hcov⟩
          · rcases (hset' j).mp hj with q | q
            · refine ⟨(hb j q).1, fun w k s hk => ?_⟩
              rcases (hb j q).2 w k s hk with g | g
              · exact Or.inl ((hset' k).mpr (Or.inl g))
              · by_cases y : k = h
                · exact Or.inl ((hset' k).mpr (Or.inr y))
                · exact Or.inr ((hnew k).mpr (Or.inl ⟨g, y⟩))
            · exact absurd q z
        · by_cases y : i0 = h
          · exact Or.inr ((hset' i0).mpr (Or.inr y))
          · rcases hc with g | g
            · exact Or.inl ((hnew i0).mpr (Or.inl ⟨g, y⟩))
            · exact Or.inr ((hset' i0).mpr (Or.inl g))
theorem ya_need {post : Int32 → Prop} {v : Nat} (hC : cd_C a_length a_ops a_firsts a_seconds a_thirds b_as b_bs) (hm : m < 4) (hv : v < 6) (hi : i < rn_len a_length m) (h1 : nd_N a_length a_ops a_firsts a_seconds a_thirds m v i → post 1) (h0 : ¬ nd_N a_length a_ops a_firsts a_seconds a_thirds m v i → post 0) : wpY_isNeeded post (g_known, g_made, g_living, g_counted, g_less, g_depth, g_begun, g_given, g_outcome, g_isShort, g_ran, g_put, g_ended, a_ops, b_as, b_bs, a_thirds, a_length, b_lent, b_need, b_plans, b_keep, b_value, b_fields, b_alive, b_method, b_pc, b_variable, b_loan, b_outs, b_ends, b_todo, b_phase) (nI m) (nI i) (nI v) := by
  have hl := cd_len hC hm
  have ho : ∀ k, bt ((1 : Int32) <<< (nI i &&& 31)) k = decide (k = i) := fun k => bt_one (by omega) k
  refine nm_e ⟨17, yl_8 hC hm hv hi h1 h0 16 0 _ (mk_0 _) (mk_one hi (by omega)) (fun j _ => b_0 j) (fun j hj => ?_) (fun j hj => ?_) (Or.inl ?_) (by omega) 17 (by omega)⟩
  · rw [ho, b_0, decide_eq_true_iff] at hj
    rcases hj with q | q
    · rw [q]; exact id
    · exact absurd q (by decide)
  · rw [b_0] at hj; exact absurd hj (by decide)
  · rw [ho, decide_eq_true rfl]
end
end
section
section
variable {f_known f_depth f_brief f_outCount f_endCount f_ups f_downs f_steps f_made f_alive f_gift f_ended f_stopped : Int32} {a_length a_lends a_ops a_firsts a_seconds a_thirds a_need a_loan a_hands a_keeps a_come a_numbers a_ints a_counts a_fields a_ending a_stage a_fMethod a_fLine a_held a_lent a_outs a_ends : Nat → Int32}
variable {g_known g_made g_living g_counted g_less g_depth g_begun g_given g_outcome g_isShort g_ran g_put g_ended : Int32} {b_ops b_as b_bs b_cs b_size b_lent b_need b_plans b_keep b_value b_fields b_alive b_method b_pc b_variable b_loan b_outs b_ends b_todo b_phase : Nat → Int32}
variable {m i l k : Nat}
/-! loans -/
def ln_R (a_length a_ops a_thirds a_need : Nat → Int32) (m a i j : Nat) : Prop :=
  ∀ T : Nat → Prop, (∀ k, rn_sc a_ops a_thirds m i k → k < rn_len a_length m → bt (a_need (16 * m + k)) a = true → T k) → (∀ j k, T j → rn_sc a_ops a_thirds m j k → k < rn_len a_length m → bt (a_need (16 * m + k)) a = true → T k) → T j
def ln_G (a_ops a_need : Nat → Int32) (m a i j : Nat) : Prop := rn_mild (a_ops (16 * m + j)) ∧ ∀ v, bt (a_need (16 * m + i)) v = true → v ≠ a → bt (a_need (16 * m + j)) v = true
def ln_P (a_length a_ops a_firsts a_seconds a_thirds a_need : Nat → Int32) (m i : Nat) : Prop :=
  a_ops (16 * m + i) = 3 ∧ a_thirds (16 * m + i) ≠ 2 ∧ a_firsts (16 * m + i) ≠ a_seconds (16 * m + i) ∧ ∀ a, a < 6 → a_firsts (16 * m + i) = nI a → ∀ j, ln_R a_length a_ops a_thirds a_need m a i j → ln_G a_ops a_need m a i j
theorem ln_1 {a : Nat} (hs : rn_sc a_ops a_thirds m i k) (hk : k < rn_len a_length m) (hb : bt (a_need (16 * m + k)) a = true) : ln_R a_length a_ops a_thirds a_need m a i k := fun T h1 _ => h1 k hs hk hb
theorem ln_2 {a j : Nat} (h : ln_R a_length a_ops a_thirds a_need m a i j) (hs : rn_sc a_ops a_thirds m j k) (hk : k < rn_len a_length m) (hb : bt (a_need (16 * m + k)) a = true) : ln_R a_length a_ops a_thirds a_need m a i k := fun T h1 h2 => h2 j k (h T h1 h2) hs hk hb
theorem xa_mild {post : Int32 → Prop} {x : Int32} (h1 : rn_mild x → post 1) (h0 : ¬ rn_mild x → post 0) : wpX_isMild post x :=
  br_c (fun z => h1 (Or.inl z)) (fun z1 => br_c (fun z => h1 (Or.inr (Or.inl z))) (fun z2 => br_c (fun z => h1 (Or.inr (Or.inr (Or.inl z)))) (fun z3 => br_c (fun z => h1 (Or.inr (Or.inr (Or.inr (Or.inl z))))) (fun z4 => br_c (fun z => h1 (Or.inr (Or.inr (Or.inr (Or.inr z))))) (fun z5 => h0 (fun g => by rcases g with g | g | g | g | g; exact z1 g; exact z2 g; exact z3 g; exact z4 g; exact z5 g))))))
theorem ln_oth {a j : Nat} (ha : a < 6) {x y : Int32} : ((x &&& (((1 : Int32) <<< (nI a &&& 31)) ^^^ (-1))) &&& (y ^^^ (-1))) = 0 ↔ ∀ v, bt x v = true → v ≠ a → bt y v = true := by
  constructor
  · intro h v hx hv
    cases z : bt y v
    · have : bt ((x &&& (((1 : Int32) <<< (nI a &&& 31)) ^^^ (-1))) &&& (y ^^^ (-1))) v = true := by
        rw [bt_nd, bt_clr x (by omega), hx, z, decide_eq_false hv]; rfl
      rw [h, b_0] at this
      exact absurd this (by decide)
    · rfl
  · intro h
    refine b_ext (fun v _ => ?_)
    rw [bt_nd, bt_clr x (by omega), b_0]
    cases hx : bt x v
    · rfl
    · by_cases hv : v = a
      · rw [decide_eq_true hv]; rfl
      · rw [h v hx hv]; simp
theorem ln_oth2 {a : Nat} (ha : a < 6) {x y : Int32} : (y &&& (x &&& (((1 : Int32) <<< (nI a &&& 31)) ^^^ (-1)))) = (x &&& (((1 : Int32) <<< (nI a &&& 31)) ^^^ (-1))) ↔ ∀ v, bt x v = true → v ≠ a → bt y v = true := by
  constructor
  · intro h v hx hv
    have e : bt (x &&& (((1 : Int32) <<< (nI a &&& 31)) ^^^ (-1))) v = true := by rw [bt_clr x (by omega), hx, decide_eq_false hv]; rfl
    rw [← h, b_and, Bool.and_eq_true] at e
    exact e.1
  · intro h
    refine b_ext (fun v _ => ?_)
    rw [b_and, bt_clr x (by omega)]
    cases hx : bt x v
    · rw [Bool.false_and, Bool.and_false]
    · by_cases hv : v = a
      · rw [decide_eq_true hv]; simp
      · rw [h v hx hv]; simp
theorem xl_101s {post : Int32 → Prop} {J : Int32 → Int32 → Prop} {x4 x5 seen opn : Int32} {h : Nat} (hh : h < 32) (hs : ∀ j, j < h → bt opn j = false) (hb : wX_lendsOut_101 post J (nI m) x4 x5 seen opn f_known f_depth f_brief f_outCount f_endCount f_ups f_downs f_steps f_made f_alive f_gift f_ended f_stopped a_length a_lends a_ops a_firsts a_seconds a_thirds a_need a_loan a_hands a_keeps a_come a_numbers a_ints a_counts a_fields a_ending a_stage a_fMethod a_fLine a_held a_lent a_outs a_ends 1 (nI h)) : ∀ d j, j + d = h → wX_lendsOut_101 post J (nI m) x4 x5 seen opn f_known f_depth f_brief f_outCount f_endCount f_ups f_downs f_steps f_made f_alive f_gift f_ended f_stopped a_length a_lends a_ops a_firsts a_seconds a_thirds a_need a_loan a_hands a_keeps a_come a_numbers a_ints a_counts a_fields a_ending a_stage a_fMethod a_fLine a_held a_lent a_outs a_ends (d + 1) (nI j) := by
  intro d
  induction d with
  | zero =>
    intro j hj
    have e : j = h := by omega
    subst e
    exact hb
  | succ d ih =>
    intro j hj
    rw [wX_lendsOut_101]
    refine vg_has (by omega) ?_
    rw [hs j (by omega), if_neg (by decide)]
    exact br_t rfl (nm_r (nI_1 j) (ih (j + 1) (by omega)))
/-- X: the lines behind one that need the variable come to the ones still to be looked at -/
theorem xl_206 {post : Int32 → Prop} {J : Int32 → Int32 → Prop} {a j : Nat} {x5 seen : Int32} (hC : cd_C a_length a_ops a_firsts a_seconds a_thirds b_as b_bs) (hm : m < 4) (ha : a < 6) (hj : j < 16) (opn : Int32) : ∃ opn' : Int32,
    (∀ k, bt opn' k = true ↔ (bt opn k = true ∨ (an_jp (a_ops (16 * m + j)) ∧ a_thirds (16 * m + j) = nI k ∧ k < rn_len a_length m ∧ bt (a_need (16 * m + k)) a = true)) ∧ bt seen k = false) ∧
    (J seen opn' → wX_lendsOut_206 post J (nI m) (nI a) x5 seen opn (nI (16 * m + j)) f_known f_depth f_brief f_outCount f_endCount f_ups f_downs f_steps f_made f_alive f_gift f_ended f_stopped a_length a_lends a_ops a_firsts a_seconds a_thirds a_need a_loan a_hands a_keeps a_come a_numbers a_ints a_counts a_fields a_ending a_stage a_fMethod a_fLine a_held a_lent a_outs a_ends) := by
  have hl := cd_len hC hm
  have ck : (nI (16 * m + j)).toNatClampNeg = 16 * m + j := nI_clamp (by omega)
  have vk : vp_in (nI (16 * m + j)) 64 := vp_in_nI (by omega) (by omega)
  have hsee : ∀ (x : Int32) k, bt (x &&& (seen ^^^ (-1))) k = true ↔ bt x k = true ∧ bt seen k = false := fun x k => by
    rw [bt_nd, Bool.and_eq_true]
    cases bt seen k <;> simp
  by_cases hp : an_jp (a_ops (16 * m + j))
  · obtain ⟨c, hc, ec⟩ := an_jc hC (show 16 * m + j < 64 by omega) hp
    by_cases hb : bt (rn_na a_length a_need m c) a = true
    · refine ⟨(opn ||| ((1 : Int32) <<< (nI c &&& 31))) &&& (seen ^^^ (-1)), fun k => ?_, fun hJ => ?_⟩
      · rw [hsee, bt_set _ (by omega), Bool.or_eq_true, decide_eq_true_iff]
        refine and_congr_left (fun _ => or_congr_right ⟨fun z => ?_, fun z => ?_⟩)
        · subst z
          exact ⟨hp, ec, an_na.mp hb⟩
        · exact (tl_inj (ec.symm.trans z.2.1) (by omega) (by have := z.2.2.1; omega)).symm
      · unfold wX_lendsOut_206
        rw [ck, ec]
        refine ⟨vk, xa_jumps (fun _ => br_f tl_n1' ⟨vk, ?_⟩) (fun z => absurd hp z)⟩
        refine rn_needAt hm (by omega) hl ?_
        refine vg_has (by omega) ?_
        rw [if_pos hb]
        exact br_f tl_n1' ⟨vk, nm_e (nm_e hJ)⟩
    · refine ⟨opn &&& (seen ^^^ (-1)), fun k => ?_, fun hJ => ?_⟩
      · rw [hsee]
        refine and_congr_left (fun _ => ⟨fun z => Or.inl z, fun z => z.elim id (fun g => ?_)⟩)
        have : c = k := tl_inj (ec.symm.trans g.2.1) (by omega) (by have := g.2.2.1; omega)
        subst this
        exact absurd (an_na.mpr g.2.2) hb
      · unfold wX_lendsOut_206
        rw [ck, ec]
        refine ⟨vk, xa_jumps (fun _ => br_f tl_n1' ⟨vk, ?_⟩) (fun z => absurd hp z)⟩
        refine rn_needAt hm (by omega) hl ?_
        refine vg_has (by omega) ?_
        rw [if_neg hb]
        exact br_t rfl (nm_e hJ)
  · refine ⟨opn &&& (seen ^^^ (-1)), fun k => ?_, fun hJ => ?_⟩
    · rw [hsee]
      exact and_congr_left (fun _ => ⟨fun z => Or.inl z, fun z => z.elim id (fun g => absurd g.1 hp)⟩)
    · unfold wX_lendsOut_206
      rw [ck]
      exact ⟨vk, xa_jumps (fun z => absurd z hp) (fun _ => br_t rfl (nm_e hJ))⟩
theorem ln_pc {x : Int32} {h : Nat} (hh : h < 16) (hn : bt x h = false) : nd_pc x < 16 := by
  have hle := sm_le (f := fun j => if bt x j = true then 1 else 0) (g := fun j => if j = h then 0 else 1) (n := 16) (fun j _ => by
    show (if bt x j = true then 1 else 0) ≤ if j = h then 0 else 1
    by_cases z : j = h
    · rw [z, if_neg (by rw [hn]; decide), if_pos rfl]; omega
    · rw [if_neg z]; split <;> omega)
  have h2 := sm_up (f := fun _ => 1) (g := fun j => if j = h then 0 else 1) (k := h) (n := 16) hh (fun j _ hj => if_neg hj)
  have e3 : sm (fun _ => 1) 16 = 16 := rfl
  unfold nd_pc
  simp only [if_true] at h2
  omega
/-- X: the walk behind a get -/
theorem xl_93 {post : Int32 → Prop} {a : Nat} (hC : cd_C a_length a_ops a_firsts a_seconds a_thirds b_as b_bs) (hm : m < 4) (ha : a < 6) (h1 : (∀ j, ln_R a_length a_ops a_thirds a_need m a i j → ln_G a_ops a_need m a i j) → post 1) (h0 : (∃ j, ln_R a_length a_ops a_thirds a_need m a i j ∧ ¬ ln_G a_ops a_need m a i j) → post 0) : ∀ (μ : Nat) (seen opn : Int32),
    mkL (rn_len a_length m) seen → mkL (rn_len a_length m) opn → (∀ j, bt opn j = true → bt seen j = false) → (∀ j, bt opn j = true → ln_R a_length a_ops a_thirds a_need m a i j) →
    (∀ j, bt seen j = true → ln_G a_ops a_need m a i j ∧ ∀ k, rn_sc a_ops a_thirds m j k → k < rn_len a_length m → bt (a_need (16 * m + k)) a = true → bt seen k = true ∨ bt opn k = true) →
    (∀ k, rn_sc a_ops a_thirds m i k → k < rn_len a_length m → bt (a_need (16 * m + k)) a = true → bt seen k = true ∨ bt opn k = true) → 16 ≤ μ + nd_pc seen → ∀ n, μ < n →
    wX_lendsOut_93 post (nI m) (nI a) (a_need (16 * m + i) &&& (((1 : Int32) <<< (nI a &&& 31)) ^^^ (-1))) f_known f_depth f_brief f_outCount f_endCount f_ups f_downs f_steps f_made f_alive f_gift f_ended f_stopped a_length a_lends a_ops a_firsts a_seconds a_thirds a_need a_loan a_hands a_keeps a_come a_numbers a_ints a_counts a_fields a_ending a_stage a_fMethod a_fLine a_held a_lent a_outs a_ends n seen opn := by
  have hl := cd_len hC hm
  have hend : ∀ seen : Int32, (∀ j, bt seen j = true → ln_G a_ops a_need m a i j ∧ ∀ k, rn_sc a_ops a_thirds m j k → k < rn_len a_length m → bt (a_need (16 * m + k)) a = true → bt seen k = true ∨ bt (0 : Int32) k = true) → (∀ k, rn_sc a_ops a_thirds m i k → k < rn_len a_length m → bt (a_need (16 * m + k)) a = true → bt seen k = true ∨ bt (0 : Int32) k = true) → post 1 := by
    intro seen hb hc
    refine h1 (fun j hj => (hb j ?_).1)
    refine hj (fun j => bt seen j = true) (fun k s hk hn => ?_) (fun j k hj s hk hn => ?_)
    · exact (hc k s hk hn).elim id (fun q => by rw [b_0] at q; exact absurd q (by decide))
    · exact ((hb j hj).2 k s hk hn).elim id (fun q => by rw [b_0] at q; exact absurd q (by decide))
  intro μ
  induction μ with
  | zero =>
    intro seen opn hs ho hdj ha' hb hc hμ n hn
    obtain ⟨n', rfl⟩ : ∃ n', n = n' + 1 := ⟨n - 1, by omega⟩
    have hop : opn = 0 := by
      refine Classical.byContradiction (fun hne => ?_)
      obtain ⟨h, hh, hbt, _⟩ := yl_lb hne
      have hhl := bt_lt ho hbt
      have := ln_pc (show h < 16 by omega) (hdj h hbt)
      omega
    subst hop
    rw [wX_lendsOut_93]
    exact br_t rfl (hend seen hb hc)
  | succ μ ih =>
    intro seen opn hs ho hdj ha' hb hc hμ n hn
    obtain ⟨n', rfl⟩ : ∃ n', n = n' + 1 := ⟨n - 1, by omega⟩
    rw [wX_lendsOut_93]
    by_cases hop : opn = 0
    · subst hop
      exact br_t rfl (hend seen hb hc)
    · obtain ⟨h, hh, hbt, hlow⟩ := yl_lb hop
      have hhl := bt_lt ho hbt
      have hns := hdj h hbt
      have hLR := ha' h hbt
      have hset : ∀ k, bt (seen ||| ((1 : Int32) <<< (nI h &&& 31))) k = (bt seen k || decide (k = h)) := fun k => bt_set seen (by omega) k
      have hset' : ∀ k, bt (seen ||| ((1 : Int32) <<< (nI h &&& 31))) k = true ↔ bt seen k = true ∨ k = h := fun k => by rw [hset, Bool.or_eq_true, decide_eq_true_iff]
      have hsetf : ∀ k, bt (seen ||| ((1 : Int32) <<< (nI h &&& 31))) k = false ↔ bt seen k = false ∧ k ≠ h := fun k => by
        rw [hset, Bool.or_eq_false_iff, decide_eq_false_iff_not]
      have hpc : nd_pc seen + 1 = nd_pc (seen ||| ((1 : Int32) <<< (nI h &&& 31))) := nd_pcc (by omega) ((hset' h).mpr (Or.inr rfl)) hns (fun k hk => by rw [hset, decide_eq_false hk, Bool.or_false])
      have hs' : mkL (rn_len a_length m) (seen ||| ((1 : Int32) <<< (nI h &&& 31))) := mk_or hs (mk_one hhl (by omega))
      have ck : (nI (16 * m + h)).toNatClampNeg = 16 * m + h := nI_clamp (by omega)
      have vk : vp_in (nI (16 * m + h)) 64 := vp_in_nI (by omega) (by omega)
      refine br_f hop ⟨h + 1, xl_101s hh hlow ?_ h 0 (by omega)⟩
      rw [wX_lendsOut_101]
      refine vg_has hh ?_
      rw [if_pos hbt]
      refine br_f tl_n1' (nm_e (nm_r (tl_16 m h) ⟨vk, ?_⟩))
      rw [ck]
      refine xa_mild (fun hmi => br_f tl_n1' ⟨vk, ?_⟩) (fun hmi => br_t rfl (h0 ⟨h, hLR, fun g => hmi g.1⟩))
      refine br_c (fun hot => ⟨vk, ?_⟩) (fun hot => h0 ⟨h, hLR, fun g => hot ((ln_oth (j := h) ha).mpr g.2)⟩)
      have hGd : ln_G a_ops a_need m a i h := ⟨hmi, (ln_oth (j := h) ha).mp hot⟩
      -- the rest, whatever comes to be looked at
      have KR : ∀ opn2 : Int32, (∀ k, bt opn2 k = true ↔ bt opn k = true ∨ (an_gs (a_ops (16 * m + h)) ∧ k = h + 1 ∧ k < rn_len a_length m ∧ bt (a_need (16 * m + k)) a = true)) → wX_lendsOut_206 post (wX_lendsOut_93 post (nI m) (nI a) (a_need (16 * m + i) &&& (((1 : Int32) <<< (nI a &&& 31)) ^^^ (-1))) f_known f_depth f_brief f_outCount f_endCount f_ups f_downs f_steps f_made f_alive f_gift f_ended f_stopped a_length a_lends a_ops a_firsts a_seconds a_thirds a_need a_loan a_hands a_keeps a_come a_numbers a_ints a_counts a_fields a_ending a_stage a_fMethod a_fLine a_held a_lent a_outs a_ends n') (nI m) (nI a) (a_need (16 * m + i) &&& (((1 : Int32) <<< (nI a &&& 31)) ^^^ (-1))) (seen ||| ((1 : Int32) <<< (nI h &&& 31))) opn2 (nI (16 * m + h)) f_known f_depth f_brief f_outCount f_endCount f_ups f_downs f_steps f_made f_alive f_gift f_ended f_stopped a_length a_lends a_ops a_firsts a_seconds a_thirds a_need a_loan a_hands a_keeps a_come a_numbers a_ints a_counts a_fields a_ending a_stage a_fMethod a_fLine a_held a_lent a_outs a_ends := by
        intro opn2 e2
        obtain ⟨opn3, e3, h3⟩ := xl_206 (post := post) (J := wX_lendsOut_93 post (nI m) (nI a) (a_need (16 * m + i) &&& (((1 : Int32) <<< (nI a &&& 31)) ^^^ (-1))) f_known f_depth f_brief f_outCount f_endCount f_ups f_downs f_steps f_made f_alive f_gift f_ended f_stopped a_length a_lends a_ops a_firsts a_seconds a_thirds a_need a_loan a_hands a_keeps a_come a_numbers a_ints a_counts a_fields a_ending a_stage a_fMethod a_fLine a_held a_lent a_outs a_ends n') (x5 := a_need (16 * m + i) &&& (((1 : Int32) <<< (nI a &&& 31)) ^^^ (-1))) (seen := seen ||| ((1 : Int32) <<< (nI h &&& 31))) (f_known := f_known) (f_depth := f_depth) (f_brief := f_brief) (f_outCount := f_outCount) (f_endCount := f_endCount) (f_ups := f_ups) (f_downs := f_downs) (f_steps := f_steps) (f_made := f_made) (f_alive := f_alive) (f_gift := f_gift) (f_ended := f_ended) (f_stopped := f_stopped) (a_lends := a_lends) (a_loan := a_loan) (a_hands := a_hands) (a_keeps := a_keeps) (a_come := a_come) (a_numbers := a_numbers) (a_ints := a_ints) (a_counts := a_counts) (a_fields := a_fields) (a_ending := a_ending) (a_stage := a_stage) (a_fMethod := a_fMethod) (a_fLine := a_fLine) (a_held := a_held) (a_lent := a_lent) (a_outs := a_outs) (a_ends := a_ends) (a_need := a_need) (j := h) hC hm ha (by omega) opn2
        have hnew : ∀ k, bt opn3 k = true ↔ (bt opn k = true ∨ (rn_sc a_ops a_thirds m h k ∧ k < rn_len a_length m ∧ bt (a_need (16 * m + k)) a = true)) ∧ bt seen k = false ∧ k ≠ h := fun k => by
          rw [e3 k, e2 k, hsetf k, an_sc]
          constructor
          · intro ⟨g, g2⟩
            refine ⟨?_, g2⟩
            rcases g with (g | ⟨q1, q2, q3, q4⟩) | ⟨q1, q2, q3, q4⟩
            · exact Or.inl g
            · exact Or.inr ⟨Or.inl ⟨q1, q2⟩, q3, q4⟩
            · exact Or.inr ⟨Or.inr ⟨q1, q2⟩, q3, q4⟩
          · intro ⟨g, g2⟩
            refine ⟨?_, g2⟩
            rcases g with g | ⟨q1, q3, q4⟩
            · exact Or.inl (Or.inl g)
            · rcases q1 with ⟨q1, q2⟩ | ⟨q1, q2⟩
              · exact Or.inl (Or.inr ⟨q1, q2, q3, q4⟩)
              · exact Or.inr ⟨q1, q2, q3, q4⟩
        have hcov : ∀ k, (bt seen k = true ∨ bt opn k = true ∨ (rn_sc a_ops a_thirds m h k ∧ k < rn_len a_length m ∧ bt (a_need (16 * m + k)) a = true)) → bt (seen ||| ((1 : Int32) <<< (nI h &&& 31))) k = true ∨ bt opn3 k = true := fun k g => by
          by_cases y : k = h
          · exact Or.inl ((hset' k).mpr (Or.inr y))
          · cases q : bt seen k
            · refine Or.inr ((hnew k).mpr ⟨?_, q, y⟩)
              rcases g with g | g | g
              · rw [q] at g; exact absurd g (by decide)
              · exact Or.inl g
              · exact Or.inr g
            · exact Or.inl ((hset' k).mpr (Or.inl q))
        refine h3 (ih _ _ hs' (fun k hk => ?_) (fun j hj => ?_) (fun j hj => ?_) (fun j hj => ?_) (fun k s hk hn' => ?_) (by omega) n' (by omega))
        · cases q : bt opn3 k
          · rfl
          · rcases ((hnew k).mp q).1 with g | ⟨_, g, _⟩
            · rw [ho k hk] at g; exact absurd g (by decide)
            · omega
        · exact (hsetf j).mpr ((hnew j).mp hj).2
        · rcases ((hnew j).mp hj).1 with g | ⟨g1, g2, g3⟩
          · exact ha' j g
          · exact ln_2 hLR g1 g2 g3
        · rcases (hset' j).mp hj with q | q
          · refine ⟨(hb j q).1, fun k s hk hn' => hcov k ?_⟩
            rcases (hb j q).2 k s hk hn' with g | g
            · exact Or.inl g
            · exact Or.inr (Or.inl g)
          · subst q
            exact ⟨hGd, fun k s hk hn' => hcov k (Or.inr (Or.inr ⟨s, hk, hn'⟩))⟩
        · refine hcov k ?_
          rcases hc k s hk hn' with g | g
          · exact Or.inl g
          · exact Or.inr (Or.inl g)
      refine xa_goes (fun hg => br_f tl_n1' ?_) (fun hg => br_t rfl (KR opn (fun k => ⟨fun z => Or.inl z, fun z => z.elim id (fun q => absurd q.1 hg)⟩)))
      rw [nI_1]
      refine rn_needAt hm (by omega) hl ?_
      refine vg_has (by omega) ?_
      by_cases hnb : bt (rn_na a_length a_need m (h + 1)) a = true
      · rw [if_pos hnb]
        refine br_f tl_n1' (nm_e (KR _ (fun k => ?_)))
        rw [bt_set _ (by omega), Bool.or_eq_true, decide_eq_true_iff]
        refine or_congr_right ⟨fun z => ?_, fun z => z.2.1⟩
        subst z
        exact ⟨hg, rfl, an_na.mp hnb⟩
      · rw [if_neg hnb]
        refine br_t rfl (KR _ (fun k => ⟨fun z => Or.inl z, fun z => z.elim id (fun q => ?_)⟩))
        obtain ⟨_, q2, q3⟩ := q
        subst q2
        exact absurd (an_na.mpr q3) hnb
/-- X: whether a get lends -/
theorem xa_lends {post : Int32 → Prop} (hC : cd_C a_length a_ops a_firsts a_seconds a_thirds b_as b_bs) (hm : m < 4) (hi : i < rn_len a_length m) (h1 : ln_P a_length a_ops a_firsts a_seconds a_thirds a_need m i → post 1) (h0 : ¬ ln_P a_length a_ops a_firsts a_seconds a_thirds a_need m i → post 0) : wpX_lendsOut post (f_known, f_depth, f_brief, f_outCount, f_endCount, f_ups, f_downs, f_steps, f_made, f_alive, f_gift, f_ended, f_stopped, a_length, a_lends, a_ops, a_firsts, a_seconds, a_thirds, a_need, a_loan, a_hands, a_keeps, a_come, a_numbers, a_ints, a_counts, a_fields, a_ending, a_stage, a_fMethod, a_fLine, a_held, a_lent, a_outs, a_ends) (nI m) (nI i) := by
  have hl := cd_len hC hm
  have ck : (nI (16 * m + i)).toNatClampNeg = 16 * m + i := nI_clamp (by omega)
  have vk : vp_in (nI (16 * m + i)) 64 := vp_in_nI (by omega) (by omega)
  unfold wpX_lendsOut
  dsimp only
  refine nm_r (tl_16 m i) ⟨vk, ?_⟩
  rw [ck]
  refine nm_e ⟨vk, br_c (fun e3 => ⟨vk, br_c (fun e2 => h0 (fun g => g.2.1 e2)) (fun n2 => ⟨vk, br_c (fun e => h0 (fun g => g.2.2.1 e)) (fun ne => ⟨vk, ?_⟩)⟩)⟩) (fun n3 => h0 (fun g => n3 g.1))⟩
  obtain ⟨a, ha, ea, _⟩ := cd_a hC (show 16 * m + i < 64 by omega) (by rw [e3]; decide) (by rw [e3]; decide)
  rw [ea]
  refine nm_e ?_
  have H1 : (∀ j, ln_R a_length a_ops a_thirds a_need m a i j → ln_G a_ops a_need m a i j) → post 1 := fun h => h1 ⟨e3, n2, ne, fun a' ha' ea' => by
    have : a = a' := tl_inj (ea.symm.trans ea') (by omega) (by omega)
    subst this
    exact h⟩
  have H0 : (∃ j, ln_R a_length a_ops a_thirds a_need m a i j ∧ ¬ ln_G a_ops a_need m a i j) → post 0 := fun ⟨j, g1, g2⟩ => h0 (fun g => g2 (g.2.2.2 a ha ea j g1))
  have hgs : an_gs (a_ops (16 * m + i)) := by rw [e3]; exact ⟨by decide, by decide, by decide⟩
  have hsc : ∀ k, rn_sc a_ops a_thirds m i k ↔ k = i + 1 := fun k => by
    rw [an_sc]
    refine ⟨fun z => z.elim (fun q => q.2) (fun q => ?_), fun z => Or.inl ⟨hgs, z⟩⟩
    have := q.1
    rw [e3] at this
    rcases this with w | w <;> exact absurd w (by decide)
  rw [nI_1]
  refine rn_needAt hm (by omega) hl ?_
  refine vg_has (by omega) ?_
  by_cases hnb : bt (rn_na a_length a_need m (i + 1)) a = true
  · rw [if_pos hnb]
    have hnb' := an_na.mp hnb
    have ho : ∀ k, bt ((1 : Int32) <<< (nI (i + 1) &&& 31)) k = decide (k = i + 1) := fun k => bt_one (by omega) k
    refine br_f tl_n1' (nm_e ⟨17, xl_93 hC hm ha H1 H0 16 0 _ (mk_0 _) (mk_one hnb'.1 (by omega)) (fun j _ => b_0 j) (fun j hj => ?_) (fun j hj => ?_) (fun k s hk hn => Or.inr ?_) (by omega) 17 (by omega)⟩)
    · rw [ho, decide_eq_true_iff] at hj
      subst hj
      exact ln_1 ((hsc _).mpr rfl) hnb'.1 hnb'.2
    · rw [b_0] at hj; exact absurd hj (by decide)
    · rw [ho, decide_eq_true ((hsc k).mp s)]
  · rw [if_neg hnb]
    refine br_t rfl ⟨17, xl_93 hC hm ha H1 H0 16 0 0 (mk_0 _) (mk_0 _) (fun j _ => b_0 j) (fun j hj => ?_) (fun j hj => ?_) (fun k s hk hn => ?_) (by omega) 17 (by omega)⟩
    · rw [b_0] at hj; exact absurd hj (by decide)
    · rw [b_0] at hj; exact absurd hj (by decide)
    · have := (hsc k).mp s
      subst this
      exact absurd (an_na.mpr ⟨hk, hn⟩) hnb
end
end
section
section
variable {f_known f_depth f_brief f_outCount f_endCount f_ups f_downs f_steps f_made f_alive f_gift f_ended f_stopped : Int32} {a_length a_lends a_ops a_firsts a_seconds a_thirds a_need a_loan a_hands a_keeps a_come a_numbers a_ints a_counts a_fields a_ending a_stage a_fMethod a_fLine a_held a_lent a_outs a_ends : Nat → Int32}
variable {g_known g_made g_living g_counted g_less g_depth g_begun g_given g_outcome g_isShort g_ran g_put g_ended : Int32} {b_ops b_as b_bs b_cs b_size b_lent b_need b_plans b_keep b_value b_fields b_alive b_method b_pc b_variable b_loan b_outs b_ends b_todo b_phase : Nat → Int32}
variable {m i l k : Nat}
theorem yl_82s {post : Int32 → Prop} {J : Int32 → Int32 → Prop} {x4 x5 seen opn : Int32} {h : Nat} (hh : h < 32) (hs : ∀ j, j < h → bt opn j = false) (hb : wY_isLoan_82 post J (nI m) x4 x5 seen opn g_known g_made g_living g_counted g_less g_depth g_begun g_given g_outcome g_isShort g_ran g_put g_ended b_ops b_as b_bs b_cs b_size b_lent b_need b_plans b_keep b_value b_fields b_alive b_method b_pc b_variable b_loan b_outs b_ends b_todo b_phase 1 (nI h)) : ∀ d j, j + d = h → wY_isLoan_82 post J (nI m) x4 x5 seen opn g_known g_made g_living g_counted g_less g_depth g_begun g_given g_outcome g_isShort g_ran g_put g_ended b_ops b_as b_bs b_cs b_size b_lent b_need b_plans b_keep b_value b_fields b_alive b_method b_pc b_variable b_loan b_outs b_ends b_todo b_phase (d + 1) (nI j) := by
  intro d
  induction d with
  | zero =>
    intro j hj
    have e : j = h := by omega
    subst e
    exact hb
  | succ d ih =>
    intro j hj
    rw [wY_isLoan_82]
    exact br_t ((bt_has0 _ (by omega)).mpr (hs j (by omega))) (nm_r (nI_1 j) (ih (j + 1) (by omega)))
theorem yl_mild {A B : Prop} {o : Nat} (ho : o < 14) (h1 : rn_mild (nI o) → B) (h0 : ¬ rn_mild (nI o) → A) : (nI o < 5 → A) ∧ (¬ nI o < 5 → ((10 < nI o → A) ∧ (¬ 10 < nI o → ((nI o = 8 → A) ∧ (¬ nI o = 8 → B))))) := by
  unfold rn_mild at h1 h0
  have hcase : o = 0 ∨ o = 1 ∨ o = 2 ∨ o = 3 ∨ o = 4 ∨ o = 5 ∨ o = 6 ∨ o = 7 ∨ o = 8 ∨ o = 9 ∨ o = 10 ∨ o = 11 ∨ o = 12 ∨ o = 13 := by omega
  rcases hcase with rfl | rfl | rfl | rfl | rfl | rfl | rfl | rfl | rfl | rfl | rfl | rfl | rfl | rfl
  · exact br_t (by decide) (h0 (by decide))
  · exact br_t (by decide) (h0 (by decide))
  · exact br_t (by decide) (h0 (by decide))
  · exact br_t (by decide) (h0 (by decide))
  · exact br_t (by decide) (h0 (by decide))
  · exact br_f (by decide) (br_f (by decide) (br_f (by decide) (h1 (by decide))))
  · exact br_f (by decide) (br_f (by decide) (br_f (by decide) (h1 (by decide))))
  · exact br_f (by decide) (br_f (by decide) (br_f (by decide) (h1 (by decide))))
  · exact br_f (by decide) (br_f (by decide) (br_t rfl (h0 (by decide))))
  · exact br_f (by decide) (br_f (by decide) (br_f (by decide) (h1 (by decide))))
  · exact br_f (by decide) (br_f (by decide) (br_f (by decide) (h1 (by decide))))
  · exact br_f (by decide) (br_t (by decide) (h0 (by decide)))
  · exact br_f (by decide) (br_t (by decide) (h0 (by decide)))
  · exact br_f (by decide) (br_t (by decide) (h0 (by decide)))
/-- Y: the walk behind a get -/
theorem yl_74 {post : Int32 → Prop} {a : Nat} (hC : cd_C a_length a_ops a_firsts a_seconds a_thirds b_as b_bs) (hm : m < 4) (hi : i < rn_len a_length m) (ha : a < 6) (hN : ∀ j, j < rn_len a_length m → b_need (16 * m + j) = a_need (16 * m + j)) (h1 : (∀ j, ln_R a_length a_ops a_thirds a_need m a i j → ln_G a_ops a_need m a i j) → post 1) (h0 : (∃ j, ln_R a_length a_ops a_thirds a_need m a i j ∧ ¬ ln_G a_ops a_need m a i j) → post 0) : ∀ (μ : Nat) (seen opn : Int32),
    mkL (rn_len a_length m) seen → mkL (rn_len a_length m) opn → (∀ j, bt opn j = true → bt seen j = false) → (∀ j, bt opn j = true → bt (a_need (16 * m + j)) a = true → ln_R a_length a_ops a_thirds a_need m a i j) →
    (∀ j, bt seen j = true → bt (a_need (16 * m + j)) a = true → ln_G a_ops a_need m a i j ∧ ∀ k, rn_sc a_ops a_thirds m j k → k < rn_len a_length m → bt seen k = true ∨ bt opn k = true) →
    (∀ k, rn_sc a_ops a_thirds m i k → k < rn_len a_length m → bt seen k = true ∨ bt opn k = true) → 16 ≤ μ + nd_pc seen → ∀ n, μ < n →
    wY_isLoan_74 post (nI m) (nI a) (a_need (16 * m + i) &&& (((1 : Int32) <<< (nI a &&& 31)) ^^^ (-1))) g_known g_made g_living g_counted g_less g_depth g_begun g_given g_outcome g_isShort g_ran g_put g_ended a_ops b_as b_bs a_thirds a_length a_lends b_need b_plans b_keep b_value b_fields b_alive b_method b_pc b_variable b_loan b_outs b_ends b_todo b_phase n seen opn := by
  have hl := cd_len hC hm
  have hend : ∀ seen : Int32, (∀ j, bt seen j = true → bt (a_need (16 * m + j)) a = true → ln_G a_ops a_need m a i j ∧ ∀ k, rn_sc a_ops a_thirds m j k → k < rn_len a_length m → bt seen k = true ∨ bt (0 : Int32) k = true) → (∀ k, rn_sc a_ops a_thirds m i k → k < rn_len a_length m → bt seen k = true ∨ bt (0 : Int32) k = true) → post 1 := by
    intro seen hb hc
    refine h1 (fun j hj => ?_)
    have hT := hj (fun j => bt seen j = true ∧ bt (a_need (16 * m + j)) a = true) (fun k s hk hn => ⟨?_, hn⟩) (fun j k hj s hk hn => ⟨?_, hn⟩)
    · exact (hb j hT.1 hT.2).1
    · exact (hc k s hk).elim id (fun q => by rw [b_0] at q; exact absurd q (by decide))
    · exact ((hb j hj.1 hj.2).2 k s hk).elim id (fun q => by rw [b_0] at q; exact absurd q (by decide))
  intro μ
  induction μ with
  | zero =>
    intro seen opn hs ho hdj ha' hb hc hμ n hn
    obtain ⟨n', rfl⟩ : ∃ n', n = n' + 1 := ⟨n - 1, by omega⟩
    have hop : opn = 0 := by
      refine Classical.byContradiction (fun hne => ?_)
      obtain ⟨h, hh, hbt, _⟩ := yl_lb hne
      have hhl := bt_lt ho hbt
      have := ln_pc (show h < 16 by omega) (hdj h hbt)
      omega
    subst hop
    rw [wY_isLoan_74]
    exact br_t rfl (hend seen hb hc)
  | succ μ ih =>
    intro seen opn hs ho hdj ha' hb hc hμ n hn
    obtain ⟨n', rfl⟩ : ∃ n', n = n' + 1 := ⟨n - 1, by omega⟩
    rw [wY_isLoan_74]
    by_cases hop : opn = 0
    · subst hop
      exact br_t rfl (hend seen hb hc)
    · obtain ⟨h, hh, hbt, hlow⟩ := yl_lb hop
      have hhl := bt_lt ho hbt
      have hns := hdj h hbt
      have hclr : ∀ k, bt (opn &&& (((1 : Int32) <<< (nI h &&& 31)) ^^^ (-1))) k = true ↔ bt opn k = true ∧ k ≠ h := fun k => by
        rw [bt_clr opn (by omega), Bool.and_eq_true]
        refine and_congr_right (fun _ => ?_)
        by_cases z : k = h
        · rw [decide_eq_true z]; exact ⟨fun q => absurd q (by decide), fun q => absurd z q⟩
        · rw [decide_eq_false z]; exact ⟨fun _ => z, fun _ => rfl⟩
      have hset : ∀ k, bt (seen ||| ((1 : Int32) <<< (nI h &&& 31))) k = (bt seen k || decide (k = h)) := fun k => bt_set seen (by omega) k
      have hset' : ∀ k, bt (seen ||| ((1 : Int32) <<< (nI h &&& 31))) k = true ↔ bt seen k = true ∨ k = h := fun k => by rw [hset, Bool.or_eq_true, decide_eq_true_iff]
      have hsetf : ∀ k, bt (seen ||| ((1 : Int32) <<< (nI h &&& 31))) k = false ↔ bt seen k = false ∧ k ≠ h := fun k => by
        rw [hset, Bool.or_eq_false_iff, decide_eq_false_iff_not]
      have hpc : nd_pc seen + 1 = nd_pc (seen ||| ((1 : Int32) <<< (nI h &&& 31))) := nd_pcc (by omega) ((hset' h).mpr (Or.inr rfl)) hns (fun k hk => by rw [hset, decide_eq_false hk, Bool.or_false])
      have hs' : mkL (rn_len a_length m) (seen ||| ((1 : Int32) <<< (nI h &&& 31))) := mk_or hs (mk_one hhl (by omega))
      have ck : (nI (16 * m + h)).toNatClampNeg = 16 * m + h := nI_clamp (by omega)
      have vk : vp_in (nI (16 * m + h)) 64 := vp_in_nI (by omega) (by omega)
      obtain ⟨o, ho14, eo⟩ := cd_o hC (show 16 * m + h < 64 by omega)
      obtain ⟨ra, e1, e2⟩ := ya_after (g_known := g_known) (g_made := g_made) (g_living := g_living) (g_counted := g_counted) (g_less := g_less) (g_depth := g_depth) (g_begun := g_begun) (g_given := g_given) (g_outcome := g_outcome) (g_isShort := g_isShort) (g_ran := g_ran) (g_put := g_put) (g_ended := g_ended) (b_lent := a_lends) (b_need := b_need) (b_plans := b_plans) (b_keep := b_keep) (b_value := b_value) (b_fields := b_fields) (b_alive := b_alive) (b_method := b_method) (b_pc := b_pc) (b_variable := b_variable) (b_loan := b_loan) (b_outs := b_outs) (b_ends := b_ends) (b_todo := b_todo) (b_phase := b_phase) (i := h) hC hm (by omega)
      refine br_f hop ⟨h + 1, yl_82s hh hlow ?_ h 0 (by omega)⟩
      rw [wY_isLoan_82]
      refine br_f (fun z => by rw [bt_has0 _ hh, hbt] at z; exact absurd z (by decide)) (nm_e (nm_e (nm_r (tl_16 m h) ⟨vk, ?_⟩)))
      rw [ck, hN h hhl]
      refine nm_r eo ⟨vk, ?_⟩
      by_cases hna : bt (a_need (16 * m + h)) a = true
      · refine br_f (fun z => by rw [bt_has0 _ (by omega), hna] at z; exact absurd z (by decide)) (yl_mild ho14 (fun hmi => ⟨vk, ?_⟩) (fun hmi => h0 ⟨h, ha' h hbt hna, fun g => hmi (by rw [← eo]; exact g.1)⟩))
        have hLR := ha' h hbt hna
        refine br_c (fun hot => ?_) (fun hot => h0 ⟨h, hLR, fun g => hot ((ln_oth2 ha).mpr g.2)⟩)
        have hGd : ln_G a_ops a_need m a i h := ⟨by rw [eo]; exact hmi, (ln_oth2 ha).mp hot⟩
        refine e2 _ (nm_e ?_)
        have hnew : ∀ k, bt ((opn &&& (((1 : Int32) <<< (nI h &&& 31)) ^^^ (-1))) ||| (ra &&& ((seen ||| ((1 : Int32) <<< (nI h &&& 31))) ^^^ (-1)))) k = true ↔ (bt opn k = true ∧ k ≠ h) ∨ ((rn_sc a_ops a_thirds m h k ∧ k < rn_len a_length m) ∧ bt seen k = false ∧ k ≠ h) := fun k => by
          rw [b_or, Bool.or_eq_true, hclr k, bt_nd, Bool.and_eq_true, e1 k]
          refine or_congr_right (and_congr_right (fun _ => ?_))
          rw [← hsetf k]
          cases bt (seen ||| ((1 : Int32) <<< (nI h &&& 31))) k <;> simp
        have hcov : ∀ k, (bt seen k = true ∨ bt opn k = true ∨ (rn_sc a_ops a_thirds m h k ∧ k < rn_len a_length m)) → bt (seen ||| ((1 : Int32) <<< (nI h &&& 31))) k = true ∨ bt ((opn &&& (((1 : Int32) <<< (nI h &&& 31)) ^^^ (-1))) ||| (ra &&& ((seen ||| ((1 : Int32) <<< (nI h &&& 31))) ^^^ (-1)))) k = true := fun k g => by
          by_cases y : k = h
          · exact Or.inl ((hset' k).mpr (Or.inr y))
          · cases q : bt seen k
            · refine Or.inr ((hnew k).mpr ?_)
              rcases g with g | g | g
              · rw [q] at g; exact absurd g (by decide)
              · exact Or.inl ⟨g, y⟩
              · exact Or.inr ⟨g, q, y⟩
            · exact Or.inl ((hset' k).mpr (Or.inl q))
        refine ih _ _ hs' (fun k hk => ?_) (fun j hj => ?_) (fun j hj hn' => ?_) (fun j hj hn' => ?_) (fun k s hk => ?_) (by omega) n' (by omega)
        · cases q : bt ((opn &&& (((1 : Int32) <<< (nI h &&& 31)) ^^^ (-1))) ||| (ra &&& ((seen ||| ((1 : Int32) <<< (nI h &&& 31))) ^^^ (-1)))) k
          · rfl
          · rcases (hnew k).mp q with ⟨g, _⟩ | ⟨⟨_, g⟩, _⟩
            · rw [ho k hk] at g; exact absurd g (by decide)
            · omega
        · rcases (hnew j).mp hj with ⟨g, g2⟩ | ⟨_, g⟩
          · exact (hsetf j).mpr ⟨hdj j g, g2⟩
          · exact (hsetf j).mpr g
        · rcases (hnew j).mp hj with ⟨g, _⟩ | ⟨⟨g1, g2⟩, _⟩
          · exact ha' j g hn'
          · exact ln_2 hLR g1 g2 hn'
        · rcases (hset' j).mp hj with q | q
          · refine ⟨(hb j q hn').1, fun k s hk => hcov k ?_⟩
            rcases (hb j q hn').2 k s hk with g | g
            · exact Or.inl g
            · exact Or.inr (Or.inl g)
          · subst q
            exact ⟨hGd, fun k s hk => hcov k (Or.inr (Or.inr ⟨s, hk⟩))⟩
        · refine hcov k ?_
          rcases hc k s hk with g | g
          · exact Or.inl g
          · exact Or.inr (Or.inl g)
      · have hna' : bt (a_need (16 * m + h)) a = false := by
          cases q : bt (a_need (16 * m + h)) a
          · rfl
          · exact absurd q hna
        refine br_t ((bt_has0 _ (by omega)).mpr hna') ?_
        have hcov : ∀ k, (bt seen k = true ∨ bt opn k = true) → bt (seen ||| ((1 : Int32) <<< (nI h &&& 31))) k = true ∨ bt (opn &&& (((1 : Int32) <<< (nI h &&& 31)) ^^^ (-1))) k = true := fun k g => by
          by_cases y : k = h
          · exact Or.inl ((hset' k).mpr (Or.inr y))
          · rcases g with g | g
            · exact Or.inl ((hset' k).mpr (Or.inl g))
            · exact Or.inr ((hclr k).mpr ⟨g, y⟩)
        refine ih _ _ hs' (mk_and ho) (fun j hj => ?_) (fun j hj hn' => ?_) (fun j hj hn' => ?_) (fun k s hk => ?_) (by omega) n' (by omega)
        · have g := (hclr j).mp hj
          exact (hsetf j).mpr ⟨hdj j g.1, g.2⟩
        · exact ha' j ((hclr j).mp hj).1 hn'
        · rcases (hset' j).mp hj with q | q
          · exact ⟨(hb j q hn').1, fun k s hk => hcov k ((hb j q hn').2 k s hk)⟩
          · subst q
            exact absurd hn' hna
        · exact hcov k (hc k s hk)
/-- Y: whether a get lends -/
theorem ya_loan {post : Int32 → Prop} (hC : cd_C a_length a_ops a_firsts a_seconds a_thirds b_as b_bs) (hm : m < 4) (hi : i < rn_len a_length m) (hN : ∀ j, j < rn_len a_length m → b_need (16 * m + j) = a_need (16 * m + j)) (h1 : ln_P a_length a_ops a_firsts a_seconds a_thirds a_need m i → post 1) (h0 : ¬ ln_P a_length a_ops a_firsts a_seconds a_thirds a_need m i → post 0) : wpY_isLoan post (g_known, g_made, g_living, g_counted, g_less, g_depth, g_begun, g_given, g_outcome, g_isShort, g_ran, g_put, g_ended, a_ops, b_as, b_bs, a_thirds, a_length, a_lends, b_need, b_plans, b_keep, b_value, b_fields, b_alive, b_method, b_pc, b_variable, b_loan, b_outs, b_ends, b_todo, b_phase) (nI m) (nI i) := by
  have hl := cd_len hC hm
  have ck : (nI (16 * m + i)).toNatClampNeg = 16 * m + i := nI_clamp (by omega)
  have vk : vp_in (nI (16 * m + i)) 64 := vp_in_nI (by omega) (by omega)
  unfold wpY_isLoan
  dsimp only
  refine nm_r (tl_16 m i) ⟨vk, ?_⟩
  rw [ck]
  by_cases e3 : a_ops (16 * m + i) = 3
  · obtain ⟨a, ha, ea, eb⟩ := cd_a hC (show 16 * m + i < 64 by omega) (by rw [e3]; decide) (by rw [e3]; decide)
    obtain ⟨b, hb, es, et⟩ := cd_b hC (show 16 * m + i < 64 by omega) (o := 3) e3 (by omega) (by omega)
    rw [eb, et]
    refine nm_e ⟨vk, br_t e3 ⟨vk, br_c (fun e2 => h0 (fun g => g.2.1 e2)) (fun n2 => ⟨vk, br_c (fun e => h0 (fun g => g.2.2.1 (by rw [ea, es]; exact e))) (fun ne => ⟨vk, ?_⟩)⟩)⟩⟩
    rw [hN i hi]
    refine nm_e ?_
    have H1 : (∀ j, ln_R a_length a_ops a_thirds a_need m a i j → ln_G a_ops a_need m a i j) → post 1 := fun h => h1 ⟨e3, n2, by rw [ea, es]; exact ne, fun a' ha' ea' => by
      have : a = a' := tl_inj (ea.symm.trans ea') (by omega) (by omega)
      subst this
      exact h⟩
    have H0 : (∃ j, ln_R a_length a_ops a_thirds a_need m a i j ∧ ¬ ln_G a_ops a_need m a i j) → post 0 := fun ⟨j, g1, g2⟩ => h0 (fun g => g2 (g.2.2.2 a ha ea j g1))
    obtain ⟨ra, e1, e2'⟩ := ya_after (g_known := g_known) (g_made := g_made) (g_living := g_living) (g_counted := g_counted) (g_less := g_less) (g_depth := g_depth) (g_begun := g_begun) (g_given := g_given) (g_outcome := g_outcome) (g_isShort := g_isShort) (g_ran := g_ran) (g_put := g_put) (g_ended := g_ended) (b_lent := a_lends) (b_need := b_need) (b_plans := b_plans) (b_keep := b_keep) (b_value := b_value) (b_fields := b_fields) (b_alive := b_alive) (b_method := b_method) (b_pc := b_pc) (b_variable := b_variable) (b_loan := b_loan) (b_outs := b_outs) (b_ends := b_ends) (b_todo := b_todo) (b_phase := b_phase) (i := i) hC hm (by omega)
    refine e2' _ ⟨17, yl_74 hC hm hi ha hN H1 H0 16 0 ra (mk_0 _) (fun k hk => ?_) (fun j _ => b_0 j) (fun j hj hn => ?_) (fun j hj => ?_) (fun k s hk => Or.inr ((e1 k).mpr ⟨s, hk⟩)) (by omega) 17 (by omega)⟩
    · cases q : bt ra k
      · rfl
      · have := ((e1 k).mp q).2
        omega
    · have g := (e1 j).mp hj
      exact ln_1 g.1 g.2 hn
    · rw [b_0] at hj; exact absurd hj (by decide)
  · exact nm_e ⟨vk, br_f e3 (h0 (fun g => e3 g.1))⟩
/-- Y: needed behind a line -/
theorem yl_13 {set : Int32} (hC : cd_C a_length a_ops a_firsts a_seconds a_thirds b_as b_bs) (hm : m < 4) : ∀ (d j : Nat) (x4 : Int32), j + d = 16 → ∃ r : Int32, (∀ v, bt r v = true ↔ bt x4 v = true ∨ ∃ k, j ≤ k ∧ k < 16 ∧ bt set k = true ∧ bt (b_need (16 * m + k)) v = true) ∧ ∀ post : Int32 → Prop, post r → wY_needBehind_13 post (nI m) set g_known g_made g_living g_counted g_less g_depth g_begun g_given g_outcome g_isShort g_ran g_put g_ended b_ops b_as b_bs b_cs b_size b_lent b_need b_plans b_keep b_value b_fields b_alive b_method b_pc b_variable b_loan b_outs b_ends b_todo b_phase (d + 1) x4 (nI j) := by
  intro d
  induction d with
  | zero =>
    intro j x4 hj
    refine ⟨x4, fun v => ⟨fun z => Or.inl z, fun z => z.elim id (fun ⟨k, q1, q2, _⟩ => by omega)⟩, fun post hp => ?_⟩
    have e : j = 16 := by omega
    subst e
    rw [wY_needBehind_13]
    exact br_t (by decide) hp
  | succ d ih =>
    intro j x4 hj
    have hn16 : ¬ (16 : Int32) ≤ nI j := nI_ge (b := 16) (by omega) (by omega)
    cases hb : bt set j
    · obtain ⟨r, h1, h2⟩ := ih (j + 1) x4 (by omega)
      refine ⟨r, fun v => ?_, fun post hp => ?_⟩
      · rw [h1 v]
        refine or_congr_right ⟨fun ⟨k, q1, q2⟩ => ⟨k, by omega, q2⟩, fun ⟨k, q1, q2, q3, q4⟩ => ⟨k, ?_, q2, q3, q4⟩⟩
        refine Nat.lt_of_le_of_ne q1 (fun z => ?_)
        rw [← z, hb] at q3
        exact absurd q3 (by decide)
      · rw [wY_needBehind_13]
        exact br_f hn16 (br_t ((bt_has0 _ (by omega)).mpr hb) (nm_r (nI_1 j) (h2 post hp)))
    · obtain ⟨r, h1, h2⟩ := ih (j + 1) (x4 ||| b_need (16 * m + j)) (by omega)
      have ck : (nI (16 * m + j)).toNatClampNeg = 16 * m + j := nI_clamp (by omega)
      refine ⟨r, fun v => ?_, fun post hp => ?_⟩
      · rw [h1 v, b_or, Bool.or_eq_true]
        constructor
        · intro g
          rcases g with (g | g) | ⟨k, q1, q2⟩
          · exact Or.inl g
          · exact Or.inr ⟨j, by omega, by omega, hb, g⟩
          · exact Or.inr ⟨k, by omega, q2⟩
        · intro g
          rcases g with g | ⟨k, q1, q2, q3, q4⟩
          · exact Or.inl (Or.inl g)
          · by_cases z : k = j
            · subst z
              exact Or.inl (Or.inr q4)
            · exact Or.inr ⟨k, by omega, q2, q3, q4⟩
      · rw [wY_needBehind_13]
        refine br_f hn16 (br_f (fun z => by rw [bt_has0 _ (by omega), hb] at z; exact absurd z (by decide)) ?_)
        rw [tl_16, ck]
        exact ⟨vp_in_nI (by omega) (by omega), nm_e (nm_r (nI_1 j) (h2 post hp))⟩
theorem ya_nb (hC : cd_C a_length a_ops a_firsts a_seconds a_thirds b_as b_bs) (hm : m < 4) (hi : i < 16) (hN : ∀ j, j < rn_len a_length m → b_need (16 * m + j) = a_need (16 * m + j)) : ∃ r : Int32, (∀ v, bt r v = true ↔ ∃ k, rn_sc a_ops a_thirds m i k ∧ k < rn_len a_length m ∧ bt (a_need (16 * m + k)) v = true) ∧ ∀ post : Int32 → Prop, post r → wpY_needBehind post (g_known, g_made, g_living, g_counted, g_less, g_depth, g_begun, g_given, g_outcome, g_isShort, g_ran, g_put, g_ended, a_ops, b_as, b_bs, a_thirds, a_length, a_lends, b_need, b_plans, b_keep, b_value, b_fields, b_alive, b_method, b_pc, b_variable, b_loan, b_outs, b_ends, b_todo, b_phase) (nI m) (nI i) := by
  have hl := cd_len hC hm
  obtain ⟨ra, e1, e2⟩ := ya_after (g_known := g_known) (g_made := g_made) (g_living := g_living) (g_counted := g_counted) (g_less := g_less) (g_depth := g_depth) (g_begun := g_begun) (g_given := g_given) (g_outcome := g_outcome) (g_isShort := g_isShort) (g_ran := g_ran) (g_put := g_put) (g_ended := g_ended) (b_lent := a_lends) (b_need := b_need) (b_plans := b_plans) (b_keep := b_keep) (b_value := b_value) (b_fields := b_fields) (b_alive := b_alive) (b_method := b_method) (b_pc := b_pc) (b_variable := b_variable) (b_loan := b_loan) (b_outs := b_outs) (b_ends := b_ends) (b_todo := b_todo) (b_phase := b_phase) (i := i) hC hm hi
  obtain ⟨r, h1, h2⟩ := yl_13 (g_known := g_known) (g_made := g_made) (g_living := g_living) (g_counted := g_counted) (g_less := g_less) (g_depth := g_depth) (g_begun := g_begun) (g_given := g_given) (g_outcome := g_outcome) (g_isShort := g_isShort) (g_ran := g_ran) (g_put := g_put) (g_ended := g_ended) (b_lent := a_lends) (b_need := b_need) (b_plans := b_plans) (b_keep := b_keep) (b_value := b_value) (b_fields := b_fields) (b_alive := b_alive) (b_method := b_method) (b_pc := b_pc) (b_variable := b_variable) (b_loan := b_loan) (b_outs := b_outs) (b_ends := b_ends) (b_todo := b_todo) (b_phase := b_phase) (b_as := b_as) (b_bs := b_bs) (b_ops := a_ops) (b_cs := a_thirds) (b_size := a_length) (set := ra) hC hm 16 0 0 (by omega)
  refine ⟨r, fun v => ?_, fun post hp => e2 _ ⟨17, h2 post hp⟩⟩
  rw [h1 v, b_0]
  constructor
  · intro g
    rcases g with g | ⟨k, _, _, q3, q4⟩
    · exact absurd g (by decide)
    · have := (e1 k).mp q3
      exact ⟨k, this.1, this.2, by rw [← hN k this.2]; exact q4⟩
  · intro ⟨k, q1, q2, q3⟩
    exact Or.inr ⟨k, by omega, by omega, (e1 k).mpr ⟨q1, q2⟩, by rw [hN k q2]; exact q3⟩
/-! what hands over -/
def hd_P (a_length a_lends a_ops a_firsts a_seconds a_thirds a_need : Nat → Int32) (m i : Nat) : Prop :=
  ∃ b, b < 6 ∧ a_seconds (16 * m + i) = nI b ∧
    ((a_ops (16 * m + i) = 1 ∧ a_firsts (16 * m + i) ≠ a_seconds (16 * m + i) ∧ ¬ ∃ k, rn_sc a_ops a_thirds m i k ∧ k < rn_len a_length m ∧ bt (a_need (16 * m + k)) b = true) ∨
     (a_ops (16 * m + i) = 4 ∧ a_firsts (16 * m + i) ≠ a_seconds (16 * m + i) ∧ (¬ ∃ k, rn_sc a_ops a_thirds m i k ∧ k < rn_len a_length m ∧ bt (a_need (16 * m + k)) b = true) ∧ a_thirds (16 * m + i) ≠ 2) ∨
     (a_ops (16 * m + i) = 11 ∧ a_lends (a_thirds (16 * m + i)).toNatClampNeg = 0 ∧ ((¬ ∃ k, rn_sc a_ops a_thirds m i k ∧ k < rn_len a_length m ∧ bt (a_need (16 * m + k)) b = true) ∨ a_firsts (16 * m + i) = a_seconds (16 * m + i))))
theorem xa_hands {post : Int32 → Prop} (hC : cd_C a_length a_ops a_firsts a_seconds a_thirds b_as b_bs) (hm : m < 4) (hi : i < rn_len a_length m) (h1 : hd_P a_length a_lends a_ops a_firsts a_seconds a_thirds a_need m i → post 1) (h0 : ¬ hd_P a_length a_lends a_ops a_firsts a_seconds a_thirds a_need m i → post 0) : wpX_handsOver post (f_known, f_depth, f_brief, f_outCount, f_endCount, f_ups, f_downs, f_steps, f_made, f_alive, f_gift, f_ended, f_stopped, a_length, a_lends, a_ops, a_firsts, a_seconds, a_thirds, a_need, a_loan, a_hands, a_keeps, a_come, a_numbers, a_ints, a_counts, a_fields, a_ending, a_stage, a_fMethod, a_fLine, a_held, a_lent, a_outs, a_ends) (nI m) (nI i) := by
  have hl := cd_len hC hm
  have ck : (nI (16 * m + i)).toNatClampNeg = 16 * m + i := nI_clamp (by omega)
  have vk : vp_in (nI (16 * m + i)) 64 := vp_in_nI (by omega) (by omega)
  obtain ⟨o, ho, eo⟩ := cd_o hC (show 16 * m + i < 64 by omega)
  obtain ⟨rb, e1, e2⟩ := xa_nb (f_known := f_known) (f_depth := f_depth) (f_brief := f_brief) (f_outCount := f_outCount) (f_endCount := f_endCount) (f_ups := f_ups) (f_downs := f_downs) (f_steps := f_steps) (f_made := f_made) (f_alive := f_alive) (f_gift := f_gift) (f_ended := f_ended) (f_stopped := f_stopped) (a_lends := a_lends) (a_loan := a_loan) (a_hands := a_hands) (a_keeps := a_keeps) (a_come := a_come) (a_numbers := a_numbers) (a_ints := a_ints) (a_counts := a_counts) (a_fields := a_fields) (a_ending := a_ending) (a_stage := a_stage) (a_fMethod := a_fMethod) (a_fLine := a_fLine) (a_held := a_held) (a_lent := a_lent) (a_outs := a_outs) (a_ends := a_ends) (a_need := a_need) hC hm hi
  unfold wpX_handsOver
  dsimp only
  refine nm_r (tl_16 m i) ⟨vk, ?_⟩
  rw [ck]
  refine nm_e ⟨vk, nm_e ?_⟩
  refine e2 _ ?_
  by_cases h2 : o = 1 ∨ o = 4 ∨ o = 11
  · obtain ⟨b, hb, es, et⟩ := cd_b hC (show 16 * m + i < 64 by omega) eo ho (by omega)
    rw [es]
    have K : ∀ z0 : Int32, (z0 = 0 ↔ bt rb b = true) → wX_handsOver_42 post (nI (16 * m + i)) (a_firsts (16 * m + i)) (nI b) z0 f_known f_depth f_brief f_outCount f_endCount f_ups f_downs f_steps f_made f_alive f_gift f_ended f_stopped a_length a_lends a_ops a_firsts a_seconds a_thirds a_need a_loan a_hands a_keeps a_come a_numbers a_ints a_counts a_fields a_ending a_stage a_fMethod a_fLine a_held a_lent a_outs a_ends := by
      intro z0 hz
      have hfree : ¬ z0 = 0 ↔ ¬ ∃ k, rn_sc a_ops a_thirds m i k ∧ k < rn_len a_length m ∧ bt (a_need (16 * m + k)) b = true := by rw [hz, e1 b]
      have hfree' : z0 = 0 ↔ ∃ k, rn_sc a_ops a_thirds m i k ∧ k < rn_len a_length m ∧ bt (a_need (16 * m + k)) b = true := by rw [hz, e1 b]
      have hno : (hd_P a_length a_lends a_ops a_firsts a_seconds a_thirds a_need m i ↔ ((a_ops (16 * m + i) = 1 ∧ a_firsts (16 * m + i) ≠ nI b ∧ ¬ z0 = 0) ∨ (a_ops (16 * m + i) = 4 ∧ a_firsts (16 * m + i) ≠ nI b ∧ ¬ z0 = 0 ∧ a_thirds (16 * m + i) ≠ 2) ∨ (a_ops (16 * m + i) = 11 ∧ a_lends (a_thirds (16 * m + i)).toNatClampNeg = 0 ∧ (¬ z0 = 0 ∨ a_firsts (16 * m + i) = nI b)))) := by
        rw [hfree]
        unfold hd_P
        rw [es]
        constructor
        · intro ⟨b', hb', eb', g⟩
          have : b = b' := tl_inj eb' (by omega) (by omega)
          subst this
          exact g
        · intro g
          exact ⟨b, hb, rfl, g⟩
      rw [hno] at h1 h0
      unfold wX_handsOver_42
      rw [ck]
      refine ⟨vk, nm_e ?_⟩
      rw [eo] at h1 h0 ⊢
      rcases h2 with rfl | rfl | rfl
      · refine br_t rfl (br_c (fun z => h0 (fun g => ?_)) (fun z => br_c (fun q => h0 (fun g => ?_)) (fun q => h1 (Or.inl ⟨rfl, z, q⟩))))
        · rcases g with g | g | g
          · exact g.2.1 z
          · exact absurd g.1 (by decide)
          · exact absurd g.1 (by decide)
        · rcases g with g | g | g
          · exact g.2.2 q
          · exact absurd g.1 (by decide)
          · exact absurd g.1 (by decide)
      · refine br_f (by decide) (br_t rfl (br_c (fun z => h0 (fun g => ?_)) (fun z => br_c (fun q => h0 (fun g => ?_)) (fun q => ⟨vk, br_c (fun y => h0 (fun g => ?_)) (fun y => h1 (Or.inr (Or.inl ⟨rfl, z, q, y⟩)))⟩))))
        · rcases g with g | g | g
          · exact absurd g.1 (by decide)
          · exact g.2.1 z
          · exact absurd g.1 (by decide)
        · rcases g with g | g | g
          · exact absurd g.1 (by decide)
          · exact g.2.2.1 q
          · exact absurd g.1 (by decide)
        · rcases g with g | g | g
          · exact absurd g.1 (by decide)
          · exact g.2.2.2 y
          · exact absurd g.1 (by decide)
      · obtain ⟨c, hc, ec⟩ := cd_c4 hC (show 16 * m + i < 64 by omega) eo
        rw [ec, nI_clamp (by omega)] at h1 h0 ⊢
        refine br_f (by decide) (br_f (by decide) (br_t rfl ⟨vk, vp_in_nI hc (by omega), br_c (fun z => br_c (fun q => br_c (fun y => h1 (Or.inr (Or.inr ⟨rfl, z, Or.inr y⟩))) (fun y => h0 (fun g => ?_))) (fun q => h1 (Or.inr (Or.inr ⟨rfl, z, Or.inl q⟩)))) (fun z => h0 (fun g => ?_))⟩))
        · rcases g with g | g | g
          · exact absurd g.1 (by decide)
          · exact absurd g.1 (by decide)
          · rcases g.2.2 with w | w
            · exact w q
            · exact y w
        · rcases g with g | g | g
          · exact absurd g.1 (by decide)
          · exact absurd g.1 (by decide)
          · exact z g.2.1
    refine vg_has (by omega) ?_
    by_cases hbt : bt rb b = true
    · rw [if_pos hbt]
      exact br_f tl_n1' (K 0 ⟨fun _ => hbt, fun _ => rfl⟩)
    · rw [if_neg hbt]
      exact br_t rfl (K 1 ⟨fun z => absurd z tl_n1', fun z => absurd z hbt⟩)
  · have hnP : ¬ hd_P a_length a_lends a_ops a_firsts a_seconds a_thirds a_need m i := by
      rintro ⟨b, _, _, g⟩
      rw [eo] at g
      rcases g with g | g | g
      · exact h2 (Or.inl (tl_inj (b := 1) g.1 (by omega) (by omega)))
      · exact h2 (Or.inr (Or.inl (tl_inj (b := 4) g.1 (by omega) (by omega))))
      · exact h2 (Or.inr (Or.inr (tl_inj (b := 11) g.1 (by omega) (by omega))))
    have K : ∀ z0 : Int32, wX_handsOver_42 post (nI (16 * m + i)) (a_firsts (16 * m + i)) (a_seconds (16 * m + i)) z0 f_known f_depth f_brief f_outCount f_endCount f_ups f_downs f_steps f_made f_alive f_gift f_ended f_stopped a_length a_lends a_ops a_firsts a_seconds a_thirds a_need a_loan a_hands a_keeps a_come a_numbers a_ints a_counts a_fields a_ending a_stage a_fMethod a_fLine a_held a_lent a_outs a_ends := by
      intro z0
      unfold wX_handsOver_42
      rw [ck, eo]
      exact ⟨vk, nm_e (br_f (fun z => h2 (Or.inl (tl_inj (b := 1) z (by omega) (by omega)))) (br_f (fun z => h2 (Or.inr (Or.inl (tl_inj (b := 4) z (by omega) (by omega))))) (br_f (fun z => h2 (Or.inr (Or.inr (tl_inj (b := 11) z (by omega) (by omega))))) (h0 hnP))))⟩
    exact br_c (fun _ => br_f tl_n1' (K 0)) (fun _ => br_t rfl (K 1))
theorem ya_hands {post : Int32 → Prop} (hC : cd_C a_length a_ops a_firsts a_seconds a_thirds b_as b_bs) (hm : m < 4) (hi : i < rn_len a_length m) (hN : ∀ j, j < rn_len a_length m → b_need (16 * m + j) = a_need (16 * m + j)) (h1 : hd_P a_length a_lends a_ops a_firsts a_seconds a_thirds a_need m i → post 1) (h0 : ¬ hd_P a_length a_lends a_ops a_firsts a_seconds a_thirds a_need m i → post 0) : wpY_handsOver post (g_known, g_made, g_living, g_counted, g_less, g_depth, g_begun, g_given, g_outcome, g_isShort, g_ran, g_put, g_ended, a_ops, b_as, b_bs, a_thirds, a_length, a_lends, b_need, b_plans, b_keep, b_value, b_fields, b_alive, b_method, b_pc, b_variable, b_loan, b_outs, b_ends, b_todo, b_phase) (nI m) (nI i) := by
  have hl := cd_len hC hm
  have ck : (nI (16 * m + i)).toNatClampNeg = 16 * m + i := nI_clamp (by omega)
  have vk : vp_in (nI (16 * m + i)) 64 := vp_in_nI (by omega) (by omega)
  obtain ⟨o, ho, eo⟩ := cd_o hC (show 16 * m + i < 64 by omega)
  obtain ⟨rb, e1, e2⟩ := ya_nb (g_known := g_known) (g_made := g_made) (g_living := g_living) (g_counted := g_counted) (g_less := g_less) (g_depth := g_depth) (g_begun := g_begun) (g_given := g_given) (g_outcome := g_outcome) (g_isShort := g_isShort) (g_ran := g_ran) (g_put := g_put) (g_ended := g_ended) (b_need := b_need) (b_plans := b_plans) (b_keep := b_keep) (b_value := b_value) (b_fields := b_fields) (b_alive := b_alive) (b_method := b_method) (b_pc := b_pc) (b_variable := b_variable) (b_loan := b_loan) (b_outs := b_outs) (b_ends := b_ends) (b_todo := b_todo) (b_phase := b_phase) hC hm (show i < 16 by omega) hN
  unfold wpY_handsOver
  dsimp only
  refine nm_r (tl_16 m i) ⟨vk, ?_⟩
  rw [ck]
  refine nm_r eo ⟨vk, vk, ?_⟩
  by_cases h2 : o = 1 ∨ o = 4 ∨ o = 11
  · obtain ⟨b, hb, es, et⟩ := cd_b hC (show 16 * m + i < 64 by omega) eo ho (by omega)
    obtain ⟨a, ha, ea, eb⟩ := cd_a hC (show 16 * m + i < 64 by omega) (by rw [eo]; intro z; have := tl_inj (b := 10) z (by omega) (by omega); omega) (by rw [eo]; intro z; have := tl_inj (b := 13) z (by omega) (by omega); omega)
    have K : ∀ x5 : Int32, (x5 = 0 ↔ a_firsts (16 * m + i) ≠ nI b) → wY_handsOver_35 post (nI m) (nI i) (nI (16 * m + i)) (nI o) x5 g_known g_made g_living g_counted g_less g_depth g_begun g_given g_outcome g_isShort g_ran g_put g_ended a_ops b_as b_bs a_thirds a_length a_lends b_need b_plans b_keep b_value b_fields b_alive b_method b_pc b_variable b_loan b_outs b_ends b_todo b_phase := by
      intro x5 h5
      have h5' : ¬ x5 = 0 ↔ a_firsts (16 * m + i) = nI b := by rw [h5]; exact Classical.not_not
      refine e2 _ ⟨vk, ?_⟩
      rw [ck, et]
      have K2 : ∀ z0 : Int32, (¬ z0 = 0 ↔ bt rb b = true) → wY_handsOver_60 post (nI (16 * m + i)) (nI o) x5 z0 g_known g_made g_living g_counted g_less g_depth g_begun g_given g_outcome g_isShort g_ran g_put g_ended a_ops b_as b_bs a_thirds a_length a_lends b_need b_plans b_keep b_value b_fields b_alive b_method b_pc b_variable b_loan b_outs b_ends b_todo b_phase := by
        intro z0 hz
        have hfree : z0 = 0 ↔ ¬ ∃ k, rn_sc a_ops a_thirds m i k ∧ k < rn_len a_length m ∧ bt (a_need (16 * m + k)) b = true := by
          rw [← e1 b, ← hz]; exact Classical.not_not.symm
        have hno : (hd_P a_length a_lends a_ops a_firsts a_seconds a_thirds a_need m i ↔ ((a_ops (16 * m + i) = 1 ∧ x5 = 0 ∧ z0 = 0) ∨ (a_ops (16 * m + i) = 4 ∧ x5 = 0 ∧ z0 = 0 ∧ a_thirds (16 * m + i) ≠ 2) ∨ (a_ops (16 * m + i) = 11 ∧ a_lends (a_thirds (16 * m + i)).toNatClampNeg = 0 ∧ (z0 = 0 ∨ ¬ x5 = 0)))) := by
          rw [hfree, h5', h5]
          unfold hd_P
          rw [es]
          constructor
          · intro ⟨b', hb', eb', g⟩
            have : b = b' := tl_inj eb' (by omega) (by omega)
            subst this
            exact g
          · intro g
            exact ⟨b, hb, rfl, g⟩
        rw [hno] at h1 h0
        unfold wY_handsOver_60
        rw [ck]
        rw [eo] at h1 h0
        have K121 : (x5 = 0 ∧ z0 = 0 → post 1) → (¬ (x5 = 0 ∧ z0 = 0) → post 0) → wY_handsOver_121 post x5 z0 g_known g_made g_living g_counted g_less g_depth g_begun g_given g_outcome g_isShort g_ran g_put g_ended a_ops b_as b_bs a_thirds a_length a_lends b_need b_plans b_keep b_value b_fields b_alive b_method b_pc b_variable b_loan b_outs b_ends b_todo b_phase := fun g1 g0 =>
          br_c (fun z => br_c (fun q => g1 ⟨z, q⟩) (fun q => g0 (fun w => q w.2))) (fun z => g0 (fun w => z w.1))
        rcases h2 with rfl | rfl | rfl
        · refine br_f (by decide) (br_t rfl (K121 (fun g => h1 (Or.inl ⟨rfl, g⟩)) (fun g => h0 (fun w => ?_))))
          rcases w with w | w | w
          · exact g w.2
          · exact absurd w.1 (by decide)
          · exact absurd w.1 (by decide)
        · obtain ⟨c, hc, ec⟩ := cd_c3 hC (show 16 * m + i < 64 by omega) eo ho (by omega)
          rw [ec] at h1 h0 ⊢
          refine br_f (by decide) (br_f (by decide) (br_t rfl ⟨vk, br_c (fun z => h0 (fun w => ?_)) (fun z => K121 (fun g => h1 (Or.inr (Or.inl ⟨rfl, g.1, g.2, fun y => z (by rw [y]; decide)⟩))) (fun g => h0 (fun w => ?_)))⟩))
          · rcases w with w | w | w
            · exact absurd w.1 (by decide)
            · rw [show (2 : Int32) = nI 2 from rfl, nI_leI (by omega) (by omega)] at z
              exact w.2.2.2 (by rw [show c = 2 by omega]; rfl)
            · exact absurd w.1 (by decide)
          · rcases w with w | w | w
            · exact absurd w.1 (by decide)
            · exact g ⟨w.2.1, w.2.2.1⟩
            · exact absurd w.1 (by decide)
        · obtain ⟨c, hc, ec⟩ := cd_c4 hC (show 16 * m + i < 64 by omega) eo
          rw [ec, nI_clamp (by omega)] at h1 h0 ⊢
          refine br_t rfl ⟨vk, vp_in_nI hc (by omega), br_c (fun z => br_c (fun q => br_c (fun y => h1 (Or.inr (Or.inr ⟨rfl, z, Or.inl y⟩))) (fun y => h0 (fun w => ?_))) (fun q => h1 (Or.inr (Or.inr ⟨rfl, z, Or.inr q⟩)))) (fun z => h0 (fun w => ?_))⟩
          · rcases w with w | w | w
            · exact absurd w.1 (by decide)
            · exact absurd w.1 (by decide)
            · rcases w.2.2 with g | g
              · exact y g
              · exact g q
          · rcases w with w | w | w
            · exact absurd w.1 (by decide)
            · exact absurd w.1 (by decide)
            · exact z w.2.1
      by_cases hbt : bt rb b = true
      · exact br_f (fun z => by rw [bt_has0 _ (by omega), hbt] at z; exact absurd z (by decide)) (K2 1 ⟨fun _ => hbt, fun _ => tl_n1'⟩)
      · refine br_t ((bt_has0 _ (by omega)).mpr ?_) (K2 0 ⟨fun z => absurd rfl z, fun z => absurd z hbt⟩)
        cases q : bt rb b
        · rfl
        · exact absurd q hbt
    rw [eb, et]
    rw [ea] at K
    exact br_c (fun z => K 1 ⟨fun q => absurd q tl_n1', fun q => absurd z q⟩) (fun z => K 0 ⟨fun _ => z, fun _ => rfl⟩)
  · have hnP : ¬ hd_P a_length a_lends a_ops a_firsts a_seconds a_thirds a_need m i := by
      rintro ⟨b, _, _, g⟩
      rw [eo] at g
      rcases g with g | g | g
      · exact h2 (Or.inl (tl_inj (b := 1) g.1 (by omega) (by omega)))
      · exact h2 (Or.inr (Or.inl (tl_inj (b := 4) g.1 (by omega) (by omega))))
      · exact h2 (Or.inr (Or.inr (tl_inj (b := 11) g.1 (by omega) (by omega))))
    have K : ∀ x5 : Int32, wY_handsOver_35 post (nI m) (nI i) (nI (16 * m + i)) (nI o) x5 g_known g_made g_living g_counted g_less g_depth g_begun g_given g_outcome g_isShort g_ran g_put g_ended a_ops b_as b_bs a_thirds a_length a_lends b_need b_plans b_keep b_value b_fields b_alive b_method b_pc b_variable b_loan b_outs b_ends b_todo b_phase := by
      intro x5
      have K60 : ∀ z0 : Int32, wY_handsOver_60 post (nI (16 * m + i)) (nI o) x5 z0 g_known g_made g_living g_counted g_less g_depth g_begun g_given g_outcome g_isShort g_ran g_put g_ended a_ops b_as b_bs a_thirds a_length a_lends b_need b_plans b_keep b_value b_fields b_alive b_method b_pc b_variable b_loan b_outs b_ends b_todo b_phase := fun z0 =>
        br_f (fun z => h2 (Or.inr (Or.inr (tl_inj (b := 11) z (by omega) (by omega))))) (br_f (fun z => h2 (Or.inl (tl_inj (b := 1) z (by omega) (by omega)))) (br_f (fun z => h2 (Or.inr (Or.inl (tl_inj (b := 4) z (by omega) (by omega))))) (h0 hnP)))
      exact e2 _ ⟨vk, br_c (fun _ => K60 0) (fun _ => K60 1)⟩
    exact br_c (fun _ => K 1) (fun _ => K 0)
end
end
section
section
variable {f_known f_depth f_brief f_outCount f_endCount f_ups f_downs f_steps f_made f_alive f_gift f_ended f_stopped : Int32} {a_length a_lends a_ops a_firsts a_seconds a_thirds a_need a_loan a_hands a_keeps a_come a_numbers a_ints a_counts a_fields a_ending a_stage a_fMethod a_fLine a_held a_lent a_outs a_ends : Nat → Int32}
variable {g_known g_made g_living g_counted g_less g_depth g_begun g_given g_outcome g_isShort g_ran g_put g_ended : Int32} {b_ops b_as b_bs b_cs b_size b_lent b_need b_plans b_keep b_value b_fields b_alive b_method b_pc b_variable b_loan b_outs b_ends b_todo b_phase : Nat → Int32}
variable {m i l k : Nat}
theorem rn_b01 {p : Int32} (h : p = 0 ∨ p = 1) : narrow .boolean (.int p) = .int p ∧ fits .boolean (.int p) = true := by
  rcases h with rfl | rfl
  · exact ⟨rfl, rfl⟩
  · exact ⟨rfl, rfl⟩
/-! what may be kept behind a line -/
def kp_B (a_ops a_firsts a_seconds a_loan a_hands : Nat → Int32) (k : Nat) (K : Nat → Prop) (v : Nat) : Prop :=
  (K v ∧ ¬ (a_hands k ≠ 0 ∧ a_seconds k = nI v) ∧ ¬ ((a_ops k = 2 ∨ (a_ops k = 3 ∧ a_loan k ≠ 0)) ∧ a_firsts k = nI v)) ∨ ((a_ops k = 0 ∨ a_ops k = 1 ∨ a_ops k = 8 ∨ a_ops k = 11 ∨ (a_ops k = 3 ∧ a_loan k = 0)) ∧ a_firsts k = nI v)
theorem kp_mono {K K' : Nat → Prop} {v : Nat} (h : K v → K' v) (g : kp_B a_ops a_firsts a_seconds a_loan a_hands k K v) : kp_B a_ops a_firsts a_seconds a_loan a_hands k K' v :=
  g.elim (fun q => Or.inl ⟨h q.1, q.2⟩) Or.inr
/-- the part by the operation: X2 is what is left by the handing over -/
def kp_C (a_ops a_firsts a_loan : Nat → Int32) (k : Nat) (x2 : Int32) (v : Nat) : Prop :=
  (bt x2 v = true ∧ ¬ ((a_ops k = 2 ∨ (a_ops k = 3 ∧ a_loan k ≠ 0)) ∧ a_firsts k = nI v)) ∨ ((a_ops k = 0 ∨ a_ops k = 1 ∨ a_ops k = 8 ∨ a_ops k = 11 ∨ (a_ops k = 3 ∧ a_loan k = 0)) ∧ a_firsts k = nI v)
theorem kp_or {x2 : Int32} {a v : Nat} (ha : a < 6) (hv : v < 6) (ea : a_firsts k = nI a) (hg : a_ops k = 0 ∨ a_ops k = 1 ∨ a_ops k = 8 ∨ a_ops k = 11 ∨ (a_ops k = 3 ∧ a_loan k = 0)) (hn : ¬ (a_ops k = 2 ∨ (a_ops k = 3 ∧ a_loan k ≠ 0))) : bt (x2 ||| ((1 : Int32) <<< (nI a &&& 31))) v = true ↔ kp_C a_ops a_firsts a_loan k x2 v := by
  rw [bt_set _ (by omega), Bool.or_eq_true, decide_eq_true_iff]
  unfold kp_C
  rw [ea]
  constructor
  · intro g
    rcases g with g | g
    · exact Or.inl ⟨g, fun q => hn q.1⟩
    · exact Or.inr ⟨hg, by rw [g]⟩
  · intro g
    rcases g with g | g
    · exact Or.inl g.1
    · exact Or.inr (tl_inj g.2 (by omega) (by omega)).symm
theorem kp_nd {x2 : Int32} {a v : Nat} (ha : a < 6) (hv : v < 6) (ea : a_firsts k = nI a) (hg : ¬ (a_ops k = 0 ∨ a_ops k = 1 ∨ a_ops k = 8 ∨ a_ops k = 11 ∨ (a_ops k = 3 ∧ a_loan k = 0))) (hn : a_ops k = 2 ∨ (a_ops k = 3 ∧ a_loan k ≠ 0)) : bt (x2 &&& (((1 : Int32) <<< (nI a &&& 31)) ^^^ (-1))) v = true ↔ kp_C a_ops a_firsts a_loan k x2 v := by
  rw [bt_clr _ (by omega), Bool.and_eq_true]
  unfold kp_C
  rw [ea]
  constructor
  · intro g
    refine Or.inl ⟨g.1, fun q => ?_⟩
    have := tl_inj q.2 (by omega) (by omega)
    rw [decide_eq_true this.symm] at g
    exact absurd g.2 (by decide)
  · intro g
    rcases g with g | g
    · refine ⟨g.1, ?_⟩
      rw [decide_eq_false (fun z => g.2 ⟨hn, by rw [z]⟩)]
      rfl
    · exact absurd g.1 hg
theorem kp_id {x2 : Int32} {v : Nat} (hg : ¬ (a_ops k = 0 ∨ a_ops k = 1 ∨ a_ops k = 8 ∨ a_ops k = 11 ∨ (a_ops k = 3 ∧ a_loan k = 0))) (hn : ¬ (a_ops k = 2 ∨ (a_ops k = 3 ∧ a_loan k ≠ 0))) : bt x2 v = true ↔ kp_C a_ops a_firsts a_loan k x2 v := by
  unfold kp_C
  constructor
  · intro g
    exact Or.inl ⟨g, fun q => hn q.1⟩
  · intro g
    rcases g with g | g
    · exact g.1
    · exact absurd g.1 hg
/-- X -/
theorem xk_38 {x2 : Int32} (hC : cd_C a_length a_ops a_firsts a_seconds a_thirds b_as b_bs) (hk : k < 64) (h6 : mkL 6 x2) : ∃ r : Int32, mkL 6 r ∧ (∀ v, v < 6 → (bt r v = true ↔ kp_C a_ops a_firsts a_loan k x2 v)) ∧ ∀ post : Int32 → Prop, post r → wX_keptBehind_38 post (nI k) x2 ((1 : Int32) <<< (a_firsts k &&& 31)) f_known f_depth f_brief f_outCount f_endCount f_ups f_downs f_steps f_made f_alive f_gift f_ended f_stopped a_length a_lends a_ops a_firsts a_seconds a_thirds a_need a_loan a_hands a_keeps a_come a_numbers a_ints a_counts a_fields a_ending a_stage a_fMethod a_fLine a_held a_lent a_outs a_ends := by
  have ck : (nI k).toNatClampNeg = k := nI_clamp (by omega)
  have vk : vp_in (nI k) 64 := vp_in_nI hk (by omega)
  obtain ⟨o, ho, eo⟩ := cd_o hC hk
  have hcase : o = 0 ∨ o = 1 ∨ o = 2 ∨ o = 3 ∨ o = 4 ∨ o = 5 ∨ o = 6 ∨ o = 7 ∨ o = 8 ∨ o = 9 ∨ o = 10 ∨ o = 11 ∨ o = 12 ∨ o = 13 := by omega
  rcases hcase with rfl | rfl | rfl | rfl | rfl | rfl | rfl | rfl | rfl | rfl | rfl | rfl | rfl | rfl
  · obtain ⟨a, ha, ea, _⟩ := cd_a hC hk (by rw [eo]; decide) (by rw [eo]; decide)
    refine ⟨x2 ||| ((1 : Int32) <<< (nI a &&& 31)), mk_or h6 (mk_one ha (by omega)), fun v hv => kp_or ha hv ea (by rw [eo]; exact Or.inl rfl) (by rw [eo]; intro z; rcases z with z | z; exact absurd z (by decide); exact absurd z.1 (by decide)), fun post hp => ?_⟩
    unfold wX_keptBehind_38
    rw [ck, ea]
    exact ⟨vk, nm_r eo (br_f (by decide) (br_f (by decide) (br_t rfl (hp))))⟩
  · obtain ⟨a, ha, ea, _⟩ := cd_a hC hk (by rw [eo]; decide) (by rw [eo]; decide)
    refine ⟨x2 ||| ((1 : Int32) <<< (nI a &&& 31)), mk_or h6 (mk_one ha (by omega)), fun v hv => kp_or ha hv ea (by rw [eo]; exact Or.inr (Or.inl rfl)) (by rw [eo]; intro z; rcases z with z | z; exact absurd z (by decide); exact absurd z.1 (by decide)), fun post hp => ?_⟩
    unfold wX_keptBehind_38
    rw [ck, ea]
    exact ⟨vk, nm_r eo (br_f (by decide) (br_f (by decide) (br_f (by decide) (br_t rfl (hp)))))⟩
  · obtain ⟨a, ha, ea, _⟩ := cd_a hC hk (by rw [eo]; decide) (by rw [eo]; decide)
    refine ⟨x2 &&& (((1 : Int32) <<< (nI a &&& 31)) ^^^ (-1)), mk_and h6, fun v hv => kp_nd ha hv ea (by rw [eo]; intro z; rcases z with z | z | z | z | z; exact absurd z (by decide); exact absurd z (by decide); exact absurd z (by decide); exact absurd z (by decide); exact absurd z.1 (by decide)) (by rw [eo]; exact Or.inl rfl), fun post hp => ?_⟩
    unfold wX_keptBehind_38
    rw [ck, ea]
    exact ⟨vk, nm_r eo (br_f (by decide) (br_f (by decide) (br_f (by decide) (br_f (by decide) (br_t rfl (hp))))))⟩
  · obtain ⟨a, ha, ea, _⟩ := cd_a hC hk (by rw [eo]; decide) (by rw [eo]; decide)
    by_cases hz : a_loan k = 0
    · refine ⟨x2 ||| ((1 : Int32) <<< (nI a &&& 31)), mk_or h6 (mk_one ha (by omega)), fun v hv => kp_or ha hv ea (by rw [eo]; exact Or.inr (Or.inr (Or.inr (Or.inr ⟨rfl, hz⟩)))) (by rw [eo]; intro z; rcases z with z | z; exact absurd z (by decide); exact absurd hz z.2), fun post hp => ?_⟩
      unfold wX_keptBehind_38
      rw [ck, ea]
      exact ⟨vk, nm_r eo (br_f (by decide) (br_f (by decide) (br_f (by decide) (br_f (by decide) (br_f (by decide) (br_t rfl (⟨vk, br_t hz hp⟩)))))))⟩
    · refine ⟨x2 &&& (((1 : Int32) <<< (nI a &&& 31)) ^^^ (-1)), mk_and h6, fun v hv => kp_nd ha hv ea (by rw [eo]; intro z; rcases z with z | z | z | z | z; exact absurd z (by decide); exact absurd z (by decide); exact absurd z (by decide); exact absurd z (by decide); exact absurd z.2 hz) (by rw [eo]; exact Or.inr ⟨rfl, hz⟩), fun post hp => ?_⟩
      unfold wX_keptBehind_38
      rw [ck, ea]
      exact ⟨vk, nm_r eo (br_f (by decide) (br_f (by decide) (br_f (by decide) (br_f (by decide) (br_f (by decide) (br_t rfl (⟨vk, br_f hz hp⟩)))))))⟩
  · refine ⟨x2, h6, fun v hv => kp_id (by rw [eo]; intro z; rcases z with z | z | z | z | z; exact absurd z (by decide); exact absurd z (by decide); exact absurd z (by decide); exact absurd z (by decide); exact absurd z.1 (by decide)) (by rw [eo]; intro z; rcases z with z | z; exact absurd z (by decide); exact absurd z.1 (by decide)), fun post hp => ?_⟩
    unfold wX_keptBehind_38
    rw [ck]
    exact ⟨vk, nm_r eo (br_f (by decide) (br_f (by decide) (br_f (by decide) (br_f (by decide) (br_f (by decide) (br_f (by decide) (br_t rfl (hp))))))))⟩
  · refine ⟨x2, h6, fun v hv => kp_id (by rw [eo]; intro z; rcases z with z | z | z | z | z; exact absurd z (by decide); exact absurd z (by decide); exact absurd z (by decide); exact absurd z (by decide); exact absurd z.1 (by decide)) (by rw [eo]; intro z; rcases z with z | z; exact absurd z (by decide); exact absurd z.1 (by decide)), fun post hp => ?_⟩
    unfold wX_keptBehind_38
    rw [ck]
    exact ⟨vk, nm_r eo (br_f (by decide) (br_f (by decide) (br_f (by decide) (br_f (by decide) (br_f (by decide) (br_f (by decide) (br_f (by decide) (br_t rfl (hp)))))))))⟩
  · refine ⟨x2, h6, fun v hv => kp_id (by rw [eo]; intro z; rcases z with z | z | z | z | z; exact absurd z (by decide); exact absurd z (by decide); exact absurd z (by decide); exact absurd z (by decide); exact absurd z.1 (by decide)) (by rw [eo]; intro z; rcases z with z | z; exact absurd z (by decide); exact absurd z.1 (by decide)), fun post hp => ?_⟩
    unfold wX_keptBehind_38
    rw [ck]
    exact ⟨vk, nm_r eo (br_f (by decide) (br_f (by decide) (br_f (by decide) (br_f (by decide) (br_f (by decide) (br_f (by decide) (br_f (by decide) (br_f (by decide) (br_t rfl (hp))))))))))⟩
  · refine ⟨x2, h6, fun v hv => kp_id (by rw [eo]; intro z; rcases z with z | z | z | z | z; exact absurd z (by decide); exact absurd z (by decide); exact absurd z (by decide); exact absurd z (by decide); exact absurd z.1 (by decide)) (by rw [eo]; intro z; rcases z with z | z; exact absurd z (by decide); exact absurd z.1 (by decide)), fun post hp => ?_⟩
    unfold wX_keptBehind_38
    rw [ck]
    exact ⟨vk, nm_r eo (br_f (by decide) (br_f (by decide) (br_f (by decide) (br_f (by decide) (br_f (by decide) (br_f (by decide) (br_f (by decide) (br_f (by decide) (br_f (by decide) (br_t rfl (hp)))))))))))⟩
  · obtain ⟨a, ha, ea, _⟩ := cd_a hC hk (by rw [eo]; decide) (by rw [eo]; decide)
    refine ⟨x2 ||| ((1 : Int32) <<< (nI a &&& 31)), mk_or h6 (mk_one ha (by omega)), fun v hv => kp_or ha hv ea (by rw [eo]; exact Or.inr (Or.inr (Or.inl rfl))) (by rw [eo]; intro z; rcases z with z | z; exact absurd z (by decide); exact absurd z.1 (by decide)), fun post hp => ?_⟩
    unfold wX_keptBehind_38
    rw [ck, ea]
    exact ⟨vk, nm_r eo (br_f (by decide) (br_f (by decide) (br_f (by decide) (br_f (by decide) (br_f (by decide) (br_f (by decide) (br_f (by decide) (br_f (by decide) (br_f (by decide) (br_f (by decide) (br_t rfl (hp))))))))))))⟩
  · refine ⟨x2, h6, fun v hv => kp_id (by rw [eo]; intro z; rcases z with z | z | z | z | z; exact absurd z (by decide); exact absurd z (by decide); exact absurd z (by decide); exact absurd z (by decide); exact absurd z.1 (by decide)) (by rw [eo]; intro z; rcases z with z | z; exact absurd z (by decide); exact absurd z.1 (by decide)), fun post hp => ?_⟩
    unfold wX_keptBehind_38
    rw [ck]
    exact ⟨vk, nm_r eo (br_f (by decide) (br_f (by decide) (br_f (by decide) (br_f (by decide) (br_f (by decide) (br_f (by decide) (br_f (by decide) (br_f (by decide) (br_f (by decide) (br_f (by decide) (br_f (by decide) (br_t rfl (hp)))))))))))))⟩
  · refine ⟨x2, h6, fun v hv => kp_id (by rw [eo]; intro z; rcases z with z | z | z | z | z; exact absurd z (by decide); exact absurd z (by decide); exact absurd z (by decide); exact absurd z (by decide); exact absurd z.1 (by decide)) (by rw [eo]; intro z; rcases z with z | z; exact absurd z (by decide); exact absurd z.1 (by decide)), fun post hp => ?_⟩
    unfold wX_keptBehind_38
    rw [ck]
    exact ⟨vk, nm_r eo (br_f (by decide) (br_f (by decide) (br_f (by decide) (br_f (by decide) (br_f (by decide) (br_f (by decide) (br_f (by decide) (br_f (by decide) (br_f (by decide) (br_f (by decide) (br_f (by decide) (br_f (by decide) (br_t rfl (hp))))))))))))))⟩
  · obtain ⟨a, ha, ea, _⟩ := cd_a hC hk (by rw [eo]; decide) (by rw [eo]; decide)
    refine ⟨x2 ||| ((1 : Int32) <<< (nI a &&& 31)), mk_or h6 (mk_one ha (by omega)), fun v hv => kp_or ha hv ea (by rw [eo]; exact Or.inr (Or.inr (Or.inr (Or.inl rfl)))) (by rw [eo]; intro z; rcases z with z | z; exact absurd z (by decide); exact absurd z.1 (by decide)), fun post hp => ?_⟩
    unfold wX_keptBehind_38
    rw [ck, ea]
    exact ⟨vk, nm_r eo (br_f (by decide) (br_f (by decide) (br_f (by decide) (br_f (by decide) (br_f (by decide) (br_f (by decide) (br_f (by decide) (br_f (by decide) (br_f (by decide) (br_f (by decide) (br_f (by decide) (br_f (by decide) (br_f (by decide) (br_t rfl (hp)))))))))))))))⟩
  · refine ⟨x2, h6, fun v hv => kp_id (by rw [eo]; intro z; rcases z with z | z | z | z | z; exact absurd z (by decide); exact absurd z (by decide); exact absurd z (by decide); exact absurd z (by decide); exact absurd z.1 (by decide)) (by rw [eo]; intro z; rcases z with z | z; exact absurd z (by decide); exact absurd z.1 (by decide)), fun post hp => ?_⟩
    unfold wX_keptBehind_38
    rw [ck]
    exact ⟨vk, nm_r eo (br_f (by decide) (br_t (by decide) (hp)))⟩
  · refine ⟨x2, h6, fun v hv => kp_id (by rw [eo]; intro z; rcases z with z | z | z | z | z; exact absurd z (by decide); exact absurd z (by decide); exact absurd z (by decide); exact absurd z (by decide); exact absurd z.1 (by decide)) (by rw [eo]; intro z; rcases z with z | z; exact absurd z (by decide); exact absurd z.1 (by decide)), fun post hp => ?_⟩
    unfold wX_keptBehind_38
    rw [ck]
    exact ⟨vk, nm_r eo (br_f (by decide) (br_t (by decide) (hp)))⟩
theorem kp_h {v : Nat} {x x2 : Int32} (hx : bt x2 v = true ↔ bt x v = true ∧ ¬ (a_hands k ≠ 0 ∧ a_seconds k = nI v)) : kp_C a_ops a_firsts a_loan k x2 v ↔ kp_B a_ops a_firsts a_seconds a_loan a_hands k (fun v => bt x v = true) v := by
  unfold kp_C kp_B
  rw [hx]
  constructor
  · intro g
    rcases g with ⟨⟨g1, g2⟩, g3⟩ | g
    · exact Or.inl ⟨g1, g2, g3⟩
    · exact Or.inr g
  · intro g
    rcases g with ⟨g1, g2, g3⟩ | g
    · exact Or.inl ⟨⟨g1, g2⟩, g3⟩
    · exact Or.inr g
theorem xa_kept (hC : cd_C a_length a_ops a_firsts a_seconds a_thirds b_as b_bs) (hk : k < 64) (h6 : mkL 6 (a_keeps k)) (hh : a_hands k ≠ 0 → ∃ b, b < 6 ∧ a_seconds k = nI b) : ∃ r : Int32, mkL 6 r ∧ (∀ v, v < 6 → (bt r v = true ↔ kp_B a_ops a_firsts a_seconds a_loan a_hands k (fun v => bt (a_keeps k) v = true) v)) ∧ ∀ post : Int32 → Prop, post r → wpX_keptBehind post (f_known, f_depth, f_brief, f_outCount, f_endCount, f_ups, f_downs, f_steps, f_made, f_alive, f_gift, f_ended, f_stopped, a_length, a_lends, a_ops, a_firsts, a_seconds, a_thirds, a_need, a_loan, a_hands, a_keeps, a_come, a_numbers, a_ints, a_counts, a_fields, a_ending, a_stage, a_fMethod, a_fLine, a_held, a_lent, a_outs, a_ends) (nI k) := by
  have ck : (nI k).toNatClampNeg = k := nI_clamp (by omega)
  have vk : vp_in (nI k) 64 := vp_in_nI hk (by omega)
  by_cases hz : a_hands k = 0
  · obtain ⟨r, r1, r2, r3⟩ := xk_38 (f_known := f_known) (f_depth := f_depth) (f_brief := f_brief) (f_outCount := f_outCount) (f_endCount := f_endCount) (f_ups := f_ups) (f_downs := f_downs) (f_steps := f_steps) (f_made := f_made) (f_alive := f_alive) (f_gift := f_gift) (f_ended := f_ended) (f_stopped := f_stopped) (a_lends := a_lends) (a_need := a_need) (a_hands := a_hands) (a_keeps := a_keeps) (a_come := a_come) (a_numbers := a_numbers) (a_ints := a_ints) (a_counts := a_counts) (a_fields := a_fields) (a_ending := a_ending) (a_stage := a_stage) (a_fMethod := a_fMethod) (a_fLine := a_fLine) (a_held := a_held) (a_lent := a_lent) (a_outs := a_outs) (a_ends := a_ends) (x2 := a_keeps k) hC hk h6
    refine ⟨r, r1, fun v hv => (r2 v hv).trans (kp_h ⟨fun g => ⟨g, fun q => q.1 hz⟩, fun g => g.1⟩), fun post hp => ?_⟩
    unfold wpX_keptBehind
    dsimp only
    rw [ck]
    exact ⟨vk, nm_e ⟨vk, nm_e ⟨vk, br_t hz (r3 post hp)⟩⟩⟩
  · obtain ⟨b, hb, es⟩ := hh hz
    obtain ⟨r, r1, r2, r3⟩ := xk_38 (f_known := f_known) (f_depth := f_depth) (f_brief := f_brief) (f_outCount := f_outCount) (f_endCount := f_endCount) (f_ups := f_ups) (f_downs := f_downs) (f_steps := f_steps) (f_made := f_made) (f_alive := f_alive) (f_gift := f_gift) (f_ended := f_ended) (f_stopped := f_stopped) (a_lends := a_lends) (a_need := a_need) (a_hands := a_hands) (a_keeps := a_keeps) (a_come := a_come) (a_numbers := a_numbers) (a_ints := a_ints) (a_counts := a_counts) (a_fields := a_fields) (a_ending := a_ending) (a_stage := a_stage) (a_fMethod := a_fMethod) (a_fLine := a_fLine) (a_held := a_held) (a_lent := a_lent) (a_outs := a_outs) (a_ends := a_ends) (x2 := a_keeps k &&& (((1 : Int32) <<< (nI b &&& 31)) ^^^ (-1))) hC hk (mk_and h6)
    refine ⟨r, r1, fun v hv => (r2 v hv).trans (kp_h ?_), fun post hp => ?_⟩
    · rw [bt_clr _ (by omega), Bool.and_eq_true, es]
      refine and_congr_right (fun _ => ?_)
      by_cases z : v = b
      · rw [decide_eq_true z]
        exact ⟨fun q => absurd q (by decide), fun q => absurd ⟨hz, by rw [z]⟩ q⟩
      · rw [decide_eq_false z]
        exact ⟨fun _ q => z (tl_inj q.2 (by omega) (by omega)).symm, fun _ => rfl⟩
    · unfold wpX_keptBehind
      dsimp only
      rw [ck, es]
      exact ⟨vk, nm_e ⟨vk, nm_e ⟨vk, br_f hz ⟨vk, nm_e (r3 post hp)⟩⟩⟩⟩
/-- Y -/
theorem yk_47 {x2 : Int32} (hC : cd_C a_length a_ops a_firsts a_seconds a_thirds b_as b_bs) (hk : k < 64) (h6 : mkL 6 x2) (hpl : b_plans k = 1 ↔ a_loan k ≠ 0) (hl3 : a_loan k ≠ 0 → a_ops k = 3) : ∃ r : Int32, mkL 6 r ∧ (∀ v, v < 6 → (bt r v = true ↔ kp_C a_ops a_firsts a_loan k x2 v)) ∧ ∀ post : Int32 → Prop, post r → wY_kept_47 post (nI k) x2 (a_ops k) ((1 : Int32) <<< (b_as k &&& 31)) g_known g_made g_living g_counted g_less g_depth g_begun g_given g_outcome g_isShort g_ran g_put g_ended a_ops b_as b_bs a_thirds a_length a_lends b_need b_plans b_keep b_value b_fields b_alive b_method b_pc b_variable b_loan b_outs b_ends b_todo b_phase := by
  have ck : (nI k).toNatClampNeg = k := nI_clamp (by omega)
  have vk : vp_in (nI k) 64 := vp_in_nI hk (by omega)
  obtain ⟨o, ho, eo⟩ := cd_o hC hk
  have hcase : o = 0 ∨ o = 1 ∨ o = 2 ∨ o = 3 ∨ o = 4 ∨ o = 5 ∨ o = 6 ∨ o = 7 ∨ o = 8 ∨ o = 9 ∨ o = 10 ∨ o = 11 ∨ o = 12 ∨ o = 13 := by omega
  rcases hcase with rfl | rfl | rfl | rfl | rfl | rfl | rfl | rfl | rfl | rfl | rfl | rfl | rfl | rfl
  · obtain ⟨a, ha, ea, eb⟩ := cd_a hC hk (by rw [eo]; decide) (by rw [eo]; decide)
    refine ⟨x2 ||| ((1 : Int32) <<< (nI a &&& 31)), mk_or h6 (mk_one ha (by omega)), fun v hv => kp_or ha hv ea (by rw [eo]; exact Or.inl rfl) (by rw [eo]; intro z; rcases z with z | z; exact absurd z (by decide); exact absurd z.1 (by decide)), fun post hp => ?_⟩
    unfold wY_kept_47
    rw [ck, eb]
    refine br_f (by rw [eo]; decide) ⟨vk, br_f (fun z => absurd (hl3 (hpl.mp z)) (by rw [eo]; decide)) ?_⟩
    rw [eo]
    exact br_t rfl (hp)
  · obtain ⟨a, ha, ea, eb⟩ := cd_a hC hk (by rw [eo]; decide) (by rw [eo]; decide)
    refine ⟨x2 ||| ((1 : Int32) <<< (nI a &&& 31)), mk_or h6 (mk_one ha (by omega)), fun v hv => kp_or ha hv ea (by rw [eo]; exact Or.inr (Or.inl rfl)) (by rw [eo]; intro z; rcases z with z | z; exact absurd z (by decide); exact absurd z.1 (by decide)), fun post hp => ?_⟩
    unfold wY_kept_47
    rw [ck, eb]
    refine br_f (by rw [eo]; decide) ⟨vk, br_f (fun z => absurd (hl3 (hpl.mp z)) (by rw [eo]; decide)) ?_⟩
    rw [eo]
    exact br_f (by decide) (br_t rfl (hp))
  · obtain ⟨a, ha, ea, eb⟩ := cd_a hC hk (by rw [eo]; decide) (by rw [eo]; decide)
    refine ⟨x2 &&& (((1 : Int32) <<< (nI a &&& 31)) ^^^ (-1)), mk_and h6, fun v hv => kp_nd ha hv ea (by rw [eo]; intro z; rcases z with z | z | z | z | z; exact absurd z (by decide); exact absurd z (by decide); exact absurd z (by decide); exact absurd z (by decide); exact absurd z.1 (by decide)) (by rw [eo]; exact Or.inl rfl), fun post hp => ?_⟩
    unfold wY_kept_47
    rw [eb]
    exact br_t (by rw [eo]; rfl) hp
  · obtain ⟨a, ha, ea, eb⟩ := cd_a hC hk (by rw [eo]; decide) (by rw [eo]; decide)
    by_cases hz : a_loan k = 0
    · refine ⟨x2 ||| ((1 : Int32) <<< (nI a &&& 31)), mk_or h6 (mk_one ha (by omega)), fun v hv => kp_or ha hv ea (by rw [eo]; exact Or.inr (Or.inr (Or.inr (Or.inr ⟨rfl, hz⟩)))) (by rw [eo]; intro z; rcases z with z | z; exact absurd z (by decide); exact absurd hz z.2), fun post hp => ?_⟩
      unfold wY_kept_47
      rw [ck, eb]
      refine br_f (by rw [eo]; decide) ⟨vk, br_f (fun z => (hpl.mp z) hz) ?_⟩
      rw [eo]
      exact br_f (by decide) (br_f (by decide) (br_t rfl (hp)))
    · refine ⟨x2 &&& (((1 : Int32) <<< (nI a &&& 31)) ^^^ (-1)), mk_and h6, fun v hv => kp_nd ha hv ea (by rw [eo]; intro z; rcases z with z | z | z | z | z; exact absurd z (by decide); exact absurd z (by decide); exact absurd z (by decide); exact absurd z (by decide); exact absurd z.2 hz) (by rw [eo]; exact Or.inr ⟨rfl, hz⟩), fun post hp => ?_⟩
      unfold wY_kept_47
      rw [ck, eb]
      exact br_f (by rw [eo]; decide) ⟨vk, br_t (hpl.mpr hz) hp⟩
  · refine ⟨x2, h6, fun v hv => kp_id (by rw [eo]; intro z; rcases z with z | z | z | z | z; exact absurd z (by decide); exact absurd z (by decide); exact absurd z (by decide); exact absurd z (by decide); exact absurd z.1 (by decide)) (by rw [eo]; intro z; rcases z with z | z; exact absurd z (by decide); exact absurd z.1 (by decide)), fun post hp => ?_⟩
    unfold wY_kept_47
    rw [ck]
    refine br_f (by rw [eo]; decide) ⟨vk, br_f (fun z => absurd (hl3 (hpl.mp z)) (by rw [eo]; decide)) ?_⟩
    rw [eo]
    exact br_f (by decide) (br_f (by decide) (br_f (by decide) (br_f (by decide) (br_f (by decide) (hp)))))
  · refine ⟨x2, h6, fun v hv => kp_id (by rw [eo]; intro z; rcases z with z | z | z | z | z; exact absurd z (by decide); exact absurd z (by decide); exact absurd z (by decide); exact absurd z (by decide); exact absurd z.1 (by decide)) (by rw [eo]; intro z; rcases z with z | z; exact absurd z (by decide); exact absurd z.1 (by decide)), fun post hp => ?_⟩
    unfold wY_kept_47
    rw [ck]
    refine br_f (by rw [eo]; decide) ⟨vk, br_f (fun z => absurd (hl3 (hpl.mp z)) (by rw [eo]; decide)) ?_⟩
    rw [eo]
    exact br_f (by decide) (br_f (by decide) (br_f (by decide) (br_f (by decide) (br_f (by decide) (hp)))))
  · refine ⟨x2, h6, fun v hv => kp_id (by rw [eo]; intro z; rcases z with z | z | z | z | z; exact absurd z (by decide); exact absurd z (by decide); exact absurd z (by decide); exact absurd z (by decide); exact absurd z.1 (by decide)) (by rw [eo]; intro z; rcases z with z | z; exact absurd z (by decide); exact absurd z.1 (by decide)), fun post hp => ?_⟩
    unfold wY_kept_47
    rw [ck]
    refine br_f (by rw [eo]; decide) ⟨vk, br_f (fun z => absurd (hl3 (hpl.mp z)) (by rw [eo]; decide)) ?_⟩
    rw [eo]
    exact br_f (by decide) (br_f (by decide) (br_f (by decide) (br_f (by decide) (br_f (by decide) (hp)))))
  · refine ⟨x2, h6, fun v hv => kp_id (by rw [eo]; intro z; rcases z with z | z | z | z | z; exact absurd z (by decide); exact absurd z (by decide); exact absurd z (by decide); exact absurd z (by decide); exact absurd z.1 (by decide)) (by rw [eo]; intro z; rcases z with z | z; exact absurd z (by decide); exact absurd z.1 (by decide)), fun post hp => ?_⟩
    unfold wY_kept_47
    rw [ck]
    refine br_f (by rw [eo]; decide) ⟨vk, br_f (fun z => absurd (hl3 (hpl.mp z)) (by rw [eo]; decide)) ?_⟩
    rw [eo]
    exact br_f (by decide) (br_f (by decide) (br_f (by decide) (br_f (by decide) (br_f (by decide) (hp)))))
  · obtain ⟨a, ha, ea, eb⟩ := cd_a hC hk (by rw [eo]; decide) (by rw [eo]; decide)
    refine ⟨x2 ||| ((1 : Int32) <<< (nI a &&& 31)), mk_or h6 (mk_one ha (by omega)), fun v hv => kp_or ha hv ea (by rw [eo]; exact Or.inr (Or.inr (Or.inl rfl))) (by rw [eo]; intro z; rcases z with z | z; exact absurd z (by decide); exact absurd z.1 (by decide)), fun post hp => ?_⟩
    unfold wY_kept_47
    rw [ck, eb]
    refine br_f (by rw [eo]; decide) ⟨vk, br_f (fun z => absurd (hl3 (hpl.mp z)) (by rw [eo]; decide)) ?_⟩
    rw [eo]
    exact br_f (by decide) (br_f (by decide) (br_f (by decide) (br_t rfl (hp))))
  · refine ⟨x2, h6, fun v hv => kp_id (by rw [eo]; intro z; rcases z with z | z | z | z | z; exact absurd z (by decide); exact absurd z (by decide); exact absurd z (by decide); exact absurd z (by decide); exact absurd z.1 (by decide)) (by rw [eo]; intro z; rcases z with z | z; exact absurd z (by decide); exact absurd z.1 (by decide)), fun post hp => ?_⟩
    unfold wY_kept_47
    rw [ck]
    refine br_f (by rw [eo]; decide) ⟨vk, br_f (fun z => absurd (hl3 (hpl.mp z)) (by rw [eo]; decide)) ?_⟩
    rw [eo]
    exact br_f (by decide) (br_f (by decide) (br_f (by decide) (br_f (by decide) (br_f (by decide) (hp)))))
  · refine ⟨x2, h6, fun v hv => kp_id (by rw [eo]; intro z; rcases z with z | z | z | z | z; exact absurd z (by decide); exact absurd z (by decide); exact absurd z (by decide); exact absurd z (by decide); exact absurd z.1 (by decide)) (by rw [eo]; intro z; rcases z with z | z; exact absurd z (by decide); exact absurd z.1 (by decide)), fun post hp => ?_⟩
    unfold wY_kept_47
    rw [ck]
    refine br_f (by rw [eo]; decide) ⟨vk, br_f (fun z => absurd (hl3 (hpl.mp z)) (by rw [eo]; decide)) ?_⟩
    rw [eo]
    exact br_f (by decide) (br_f (by decide) (br_f (by decide) (br_f (by decide) (br_f (by decide) (hp)))))
  · obtain ⟨a, ha, ea, eb⟩ := cd_a hC hk (by rw [eo]; decide) (by rw [eo]; decide)
    refine ⟨x2 ||| ((1 : Int32) <<< (nI a &&& 31)), mk_or h6 (mk_one ha (by omega)), fun v hv => kp_or ha hv ea (by rw [eo]; exact Or.inr (Or.inr (Or.inr (Or.inl rfl)))) (by rw [eo]; intro z; rcases z with z | z; exact absurd z (by decide); exact absurd z.1 (by decide)), fun post hp => ?_⟩
    unfold wY_kept_47
    rw [ck, eb]
    refine br_f (by rw [eo]; decide) ⟨vk, br_f (fun z => absurd (hl3 (hpl.mp z)) (by rw [eo]; decide)) ?_⟩
    rw [eo]
    exact br_f (by decide) (br_f (by decide) (br_f (by decide) (br_f (by decide) (br_t rfl (hp)))))
  · refine ⟨x2, h6, fun v hv => kp_id (by rw [eo]; intro z; rcases z with z | z | z | z | z; exact absurd z (by decide); exact absurd z (by decide); exact absurd z (by decide); exact absurd z (by decide); exact absurd z.1 (by decide)) (by rw [eo]; intro z; rcases z with z | z; exact absurd z (by decide); exact absurd z.1 (by decide)), fun post hp => ?_⟩
    unfold wY_kept_47
    rw [ck]
    refine br_f (by rw [eo]; decide) ⟨vk, br_f (fun z => absurd (hl3 (hpl.mp z)) (by rw [eo]; decide)) ?_⟩
    rw [eo]
    exact br_f (by decide) (br_f (by decide) (br_f (by decide) (br_f (by decide) (br_f (by decide) (hp)))))
  · refine ⟨x2, h6, fun v hv => kp_id (by rw [eo]; intro z; rcases z with z | z | z | z | z; exact absurd z (by decide); exact absurd z (by decide); exact absurd z (by decide); exact absurd z (by decide); exact absurd z.1 (by decide)) (by rw [eo]; intro z; rcases z with z | z; exact absurd z (by decide); exact absurd z.1 (by decide)), fun post hp => ?_⟩
    unfold wY_kept_47
    rw [ck]
    refine br_f (by rw [eo]; decide) ⟨vk, br_f (fun z => absurd (hl3 (hpl.mp z)) (by rw [eo]; decide)) ?_⟩
    rw [eo]
    exact br_f (by decide) (br_f (by decide) (br_f (by decide) (br_f (by decide) (br_f (by decide) (hp)))))
theorem ya_kept (hC : cd_C a_length a_ops a_firsts a_seconds a_thirds b_as b_bs) (hk : k < 64) (h6 : mkL 6 (b_keep k)) (hpl : b_plans k = 1 ↔ a_loan k ≠ 0) (hl3 : a_loan k ≠ 0 → a_ops k = 3) (hp2 : b_plans k = 2 ↔ a_hands k ≠ 0) (hh : a_hands k ≠ 0 → ∃ b, b < 6 ∧ a_seconds k = nI b ∧ b_bs k = nI b) : ∃ r : Int32, mkL 6 r ∧ (∀ v, v < 6 → (bt r v = true ↔ kp_B a_ops a_firsts a_seconds a_loan a_hands k (fun v => bt (b_keep k) v = true) v)) ∧ ∀ post : Int32 → Prop, post r → wpY_kept post (g_known, g_made, g_living, g_counted, g_less, g_depth, g_begun, g_given, g_outcome, g_isShort, g_ran, g_put, g_ended, a_ops, b_as, b_bs, a_thirds, a_length, a_lends, b_need, b_plans, b_keep, b_value, b_fields, b_alive, b_method, b_pc, b_variable, b_loan, b_outs, b_ends, b_todo, b_phase) (nI k) := by
  have ck : (nI k).toNatClampNeg = k := nI_clamp (by omega)
  have vk : vp_in (nI k) 64 := vp_in_nI hk (by omega)
  by_cases hz : a_hands k = 0
  · obtain ⟨r, r1, r2, r3⟩ := yk_47 (g_known := g_known) (g_made := g_made) (g_living := g_living) (g_counted := g_counted) (g_less := g_less) (g_depth := g_depth) (g_begun := g_begun) (g_given := g_given) (g_outcome := g_outcome) (g_isShort := g_isShort) (g_ran := g_ran) (g_put := g_put) (g_ended := g_ended) (b_need := b_need) (b_keep := b_keep) (b_value := b_value) (b_fields := b_fields) (b_alive := b_alive) (b_method := b_method) (b_pc := b_pc) (b_variable := b_variable) (b_loan := b_loan) (b_outs := b_outs) (b_ends := b_ends) (b_todo := b_todo) (b_phase := b_phase) (x2 := b_keep k) hC hk h6 hpl hl3
    refine ⟨r, r1, fun v hv => (r2 v hv).trans (kp_h ⟨fun g => ⟨g, fun q => q.1 hz⟩, fun g => g.1⟩), fun post hp => ?_⟩
    unfold wpY_kept
    dsimp only
    rw [ck]
    exact ⟨vk, nm_e ⟨vk, nm_e ⟨vk, nm_e ⟨vk, br_f (fun z => (hp2.mp z) hz) (r3 post hp)⟩⟩⟩⟩
  · obtain ⟨b, hb, es, et⟩ := hh hz
    obtain ⟨r, r1, r2, r3⟩ := yk_47 (g_known := g_known) (g_made := g_made) (g_living := g_living) (g_counted := g_counted) (g_less := g_less) (g_depth := g_depth) (g_begun := g_begun) (g_given := g_given) (g_outcome := g_outcome) (g_isShort := g_isShort) (g_ran := g_ran) (g_put := g_put) (g_ended := g_ended) (b_need := b_need) (b_keep := b_keep) (b_value := b_value) (b_fields := b_fields) (b_alive := b_alive) (b_method := b_method) (b_pc := b_pc) (b_variable := b_variable) (b_loan := b_loan) (b_outs := b_outs) (b_ends := b_ends) (b_todo := b_todo) (b_phase := b_phase) (x2 := b_keep k &&& (((1 : Int32) <<< (nI b &&& 31)) ^^^ (-1))) hC hk (mk_and h6) hpl hl3
    refine ⟨r, r1, fun v hv => (r2 v hv).trans (kp_h ?_), fun post hp => ?_⟩
    · rw [bt_clr _ (by omega), Bool.and_eq_true, es]
      refine and_congr_right (fun _ => ?_)
      by_cases z : v = b
      · rw [decide_eq_true z]
        exact ⟨fun q => absurd q (by decide), fun q => absurd ⟨hz, by rw [z]⟩ q⟩
      · rw [decide_eq_false z]
        exact ⟨fun _ q => z (tl_inj q.2 (by omega) (by omega)).symm, fun _ => rfl⟩
    · unfold wpY_kept
      dsimp only
      rw [ck, et]
      exact ⟨vk, nm_e ⟨vk, nm_e ⟨vk, nm_e ⟨vk, br_t (hp2.mpr hz) ⟨vk, nm_e (r3 post hp)⟩⟩⟩⟩⟩
end
end
section
section
variable {f_known f_depth f_brief f_outCount f_endCount f_ups f_downs f_steps f_made f_alive f_gift f_ended f_stopped : Int32} {a_length a_lends a_ops a_firsts a_seconds a_thirds a_need a_loan a_hands a_keeps a_come a_numbers a_ints a_counts a_fields a_ending a_stage a_fMethod a_fLine a_held a_lent a_outs a_ends : Nat → Int32}
variable {g_known g_made g_living g_counted g_less g_depth g_begun g_given g_outcome g_isShort g_ran g_put g_ended : Int32} {b_ops b_as b_bs b_cs b_size b_lent b_need b_plans b_keep b_value b_fields b_alive b_method b_pc b_variable b_loan b_outs b_ends b_todo b_phase : Nat → Int32}
variable {m i l k : Nat}
/-! what is kept: the least pair of sets (place 6: a way leads to the line) -/
def kc_C (a_length a_lends a_ops a_firsts a_seconds a_thirds a_need a_loan a_hands : Nat → Int32) (m : Nat) (K : Nat → Nat → Prop) : Prop :=
  (0 < rn_len a_length m → K 0 6 ∧ (a_lends m = 0 → bt (a_need (16 * m)) 0 = true → K 0 0)) ∧
  ∀ j, j < rn_len a_length m → K j 6 → ∀ k, rn_sc a_ops a_thirds m j k → k < rn_len a_length m → K k 6 ∧ ∀ v, v < 6 → kp_B a_ops a_firsts a_seconds a_loan a_hands (16 * m + j) (K j) v → bt (a_need (16 * m + k)) v = true → K k v
def kx_ST (a_ops a_firsts a_seconds a_need a_loan a_hands : Nat → Int32) (m : Nat) (a_keeps a_come : Nat → Int32) (j k : Nat) : Prop :=
  a_come (16 * m + k) ≠ 0 ∧ ∀ v, v < 6 → kp_B a_ops a_firsts a_seconds a_loan a_hands (16 * m + j) (fun v => bt (a_keeps (16 * m + j)) v = true) v → bt (a_need (16 * m + k)) v = true → bt (a_keeps (16 * m + k)) v = true
/-- what holds all the time -/
def kx_A (a_length a_lends a_ops a_firsts a_seconds a_thirds a_need a_loan a_hands : Nat → Int32) (m : Nat) (a_keeps a_come : Nat → Int32) (opn : Int32) : Prop :=
  (∀ j, j < rn_len a_length m → mkL 6 (a_keeps (16 * m + j))) ∧ (∀ j, j < rn_len a_length m → a_come (16 * m + j) = 0 → a_keeps (16 * m + j) = 0) ∧
  (∀ K, kc_C a_length a_lends a_ops a_firsts a_seconds a_thirds a_need a_loan a_hands m K → ∀ j, j < rn_len a_length m → (a_come (16 * m + j) ≠ 0 → K j 6) ∧ ∀ v, bt (a_keeps (16 * m + j)) v = true → K j v) ∧
  (0 < rn_len a_length m → a_come (16 * m) ≠ 0 ∧ (a_lends m = 0 → bt (a_need (16 * m)) 0 = true → bt (a_keeps (16 * m)) 0 = true)) ∧
  mkL (rn_len a_length m) opn ∧ (∀ j, bt opn j = true → a_come (16 * m + j) ≠ 0)
def kx_I (a_length a_lends a_ops a_firsts a_seconds a_thirds a_need a_loan a_hands : Nat → Int32) (m : Nat) (a_keeps a_come : Nat → Int32) (opn : Int32) : Prop :=
  kx_A a_length a_lends a_ops a_firsts a_seconds a_thirds a_need a_loan a_hands m a_keeps a_come opn ∧ ∀ j, j < rn_len a_length m → a_come (16 * m + j) ≠ 0 → bt opn j = false → ∀ k, rn_sc a_ops a_thirds m j k → k < rn_len a_length m → kx_ST a_ops a_firsts a_seconds a_need a_loan a_hands m a_keeps a_come j k
def kx_J (a_length a_lends a_ops a_firsts a_seconds a_thirds a_need a_loan a_hands : Nat → Int32) (m : Nat) (a_keeps a_come : Nat → Int32) (opn : Int32) (i : Nat) (set : Int32) (P : Nat → Prop) : Prop :=
  kx_A a_length a_lends a_ops a_firsts a_seconds a_thirds a_need a_loan a_hands m a_keeps a_come opn ∧ (∀ j, j < rn_len a_length m → j ≠ i → a_come (16 * m + j) ≠ 0 → bt opn j = false → ∀ k, rn_sc a_ops a_thirds m j k → k < rn_len a_length m → kx_ST a_ops a_firsts a_seconds a_need a_loan a_hands m a_keeps a_come j k) ∧
  a_come (16 * m + i) ≠ 0 ∧ (bt opn i = false → ∀ v, v < 6 → kp_B a_ops a_firsts a_seconds a_loan a_hands (16 * m + i) (fun v => bt (a_keeps (16 * m + i)) v = true) v → bt set v = true) ∧
  (∀ K, kc_C a_length a_lends a_ops a_firsts a_seconds a_thirds a_need a_loan a_hands m K → ∀ v, v < 6 → bt set v = true → kp_B a_ops a_firsts a_seconds a_loan a_hands (16 * m + i) (K i) v) ∧
  (∀ k, P k → k < rn_len a_length m → a_come (16 * m + k) ≠ 0 ∧ ∀ v, v < 6 → bt set v = true → bt (a_need (16 * m + k)) v = true → bt (a_keeps (16 * m + k)) v = true)
def kx_ms (m : Nat) (a_keeps a_come : Nat → Int32) (opn : Int32) : Nat := 17 * sm (fun j => (64 - (a_keeps (16 * m + j)).toBitVec.toNat) + (if a_come (16 * m + j) = 0 then 1 else 0)) 16 + nd_pc opn
theorem kx_pcs {x : Int32} (hk : k < 16) : nd_pc (x ||| ((1 : Int32) <<< (nI k &&& 31))) ≤ nd_pc x + 1 := by
  have hs : ∀ j, bt (x ||| ((1 : Int32) <<< (nI k &&& 31))) j = (bt x j || decide (j = k)) := fun j => bt_set x (by omega) j
  cases h : bt x k
  · have := nd_pcc (x := x ||| ((1 : Int32) <<< (nI k &&& 31))) (y := x) hk (by rw [hs, decide_eq_true rfl, Bool.or_true]) h (fun j hj => by rw [hs, decide_eq_false hj, Bool.or_false])
    omega
  · have e : x ||| ((1 : Int32) <<< (nI k &&& 31)) = x := b_ext (fun j _ => by
      rw [hs]
      by_cases z : j = k
      · rw [z, h]; rfl
      · rw [decide_eq_false z, Bool.or_false])
    rw [e]
    omega
theorem kx_all {set : Int32} {v : Nat} : bt (a_keeps k ||| (set &&& a_need k)) v = true ↔ bt (a_keeps k) v = true ∨ (bt set v = true ∧ bt (a_need k) v = true) := by
  rw [b_or, b_and, Bool.or_eq_true, Bool.and_eq_true]
/-- a way arrives -/
theorem kx_arr {set opn r : Int32} {P : Nat → Prop} (hC : cd_C a_length a_ops a_firsts a_seconds a_thirds b_as b_bs) (hm : m < 4) (hi : i < rn_len a_length m) (hn6 : ∀ j, j < rn_len a_length m → mkL 6 (a_need (16 * m + j))) (hs : rn_sc a_ops a_thirds m i k) (hk : k < rn_len a_length m) (hr : r = 0 ∨ r = 1)
    (hr0 : r = 0 ↔ a_come (16 * m + k) ≠ 0 ∧ a_keeps (16 * m + k) ||| (set &&& a_need (16 * m + k)) = a_keeps (16 * m + k)) (hJ : kx_J a_length a_lends a_ops a_firsts a_seconds a_thirds a_need a_loan a_hands m a_keeps a_come opn i set P) :
    ∃ opn' : Int32, (r = 0 → opn' = opn) ∧ (r = 1 → opn' = opn ||| ((1 : Int32) <<< (nI k &&& 31))) ∧
      kx_J a_length a_lends a_ops a_firsts a_seconds a_thirds a_need a_loan a_hands m (upd a_keeps (16 * m + k) (a_keeps (16 * m + k) ||| (set &&& a_need (16 * m + k)))) (upd a_come (16 * m + k) 1) opn' i set (fun j => P j ∨ j = k) ∧
      kx_ms m (upd a_keeps (16 * m + k) (a_keeps (16 * m + k) ||| (set &&& a_need (16 * m + k)))) (upd a_come (16 * m + k) 1) opn' ≤ kx_ms m a_keeps a_come opn := by
  have hl := cd_len hC hm
  obtain ⟨⟨a1, a2, a3, a4, a5, a6⟩, j1, j2, j3, j4, j5⟩ := hJ
  obtain ⟨opn', e0, e1⟩ : ∃ opn' : Int32, (r = 0 → opn' = opn) ∧ (r = 1 → opn' = opn ||| ((1 : Int32) <<< (nI k &&& 31))) := by
    rcases hr with rfl | rfl
    · exact ⟨opn, fun _ => rfl, fun z => absurd z (by decide)⟩
    · exact ⟨_, fun z => absurd z tl_n1', fun _ => rfl⟩
  have hset : ∀ j, bt (opn ||| ((1 : Int32) <<< (nI k &&& 31))) j = (bt opn j || decide (j = k)) := fun j => bt_set opn (by omega) j
  have hop : ∀ j, bt opn' j = false → bt opn j = false ∧ (j = k → r = 0) := fun j hj => by
    rcases hr with rfl | rfl
    · rw [e0 rfl] at hj; exact ⟨hj, fun _ => rfl⟩
    · rw [e1 rfl, hset, Bool.or_eq_false_iff, decide_eq_false_iff_not] at hj
      exact ⟨hj.1, fun z => absurd z hj.2⟩
  have hop' : ∀ j, bt opn' j = true → bt opn j = true ∨ j = k := fun j hj => by
    rcases hr with rfl | rfl
    · rw [e0 rfl] at hj; exact Or.inl hj
    · rw [e1 rfl, hset, Bool.or_eq_true, decide_eq_true_iff] at hj
      exact hj
  have hkp : ∀ j v, bt (a_keeps (16 * m + j)) v = true → bt ((upd a_keeps (16 * m + k) (a_keeps (16 * m + k) ||| (set &&& a_need (16 * m + k)))) (16 * m + j)) v = true := fun j v h => by
    by_cases z : j = k
    · rw [z, tl_us, kx_all]; rw [z] at h; exact Or.inl h
    · rw [tl_un (by omega)]; exact h
  have hco : ∀ j, a_come (16 * m + j) ≠ 0 → (upd a_come (16 * m + k) 1) (16 * m + j) ≠ 0 := fun j h => by
    by_cases z : j = k
    · rw [z, tl_us]; exact tl_n1
    · rw [tl_un (by omega)]; exact h
  have hsame : ∀ j, bt opn' j = false → (upd a_keeps (16 * m + k) (a_keeps (16 * m + k) ||| (set &&& a_need (16 * m + k)))) (16 * m + j) = a_keeps (16 * m + j) ∧ ((upd a_come (16 * m + k) 1) (16 * m + j) ≠ 0 → a_come (16 * m + j) ≠ 0) := fun j hj => by
    by_cases z : j = k
    · have hr0' := hr0.mp ((hop j hj).2 z)
      rw [z, tl_us]
      exact ⟨hr0'.2, fun _ => hr0'.1⟩
    · rw [tl_un (by omega), tl_un (by omega)]
      exact ⟨rfl, id⟩
  have hall6 : mkL 6 (a_keeps (16 * m + k) ||| (set &&& a_need (16 * m + k))) := mk_or (a1 k hk) (mk_and' (hn6 k hk))
  refine ⟨opn', e0, e1, ⟨⟨fun j hj => ?_, fun j hj hz => ?_, fun K hK j hj => ?_, fun h0 => ?_, fun j hj => ?_, fun j hj => ?_⟩, fun j hj hne hcj hoj k' hs' hk' => ?_, hco i j2, fun hoi v hv hB => ?_, j4, fun k' hP hk' => ?_⟩, ?_⟩
  · by_cases z : j = k
    · rw [z, tl_us]; exact hall6
    · rw [tl_un (by omega)]; exact a1 j hj
  · have z : j ≠ k := fun z => by rw [z, tl_us] at hz; exact tl_n1 hz
    rw [tl_un (by omega)] at hz ⊢
    exact a2 j hj hz
  · obtain ⟨s1, s2⟩ := a3 K hK j hj
    by_cases z : j = k
    · subst z
      have hKi := (a3 K hK i hi).1 j2
      obtain ⟨c1, c2⟩ := hK.2 i hi hKi j hs hj
      refine ⟨fun _ => c1, fun v hv => ?_⟩
      rw [tl_us, kx_all] at hv
      rcases hv with hv | ⟨hv1, hv2⟩
      · exact s2 v hv
      · have hv6 := bt_lt (hn6 j hj) hv2
        exact c2 v hv6 (j4 K hK v hv6 hv1) hv2
    · rw [tl_un (by omega), tl_un (by omega)]
      exact ⟨s1, s2⟩
  · obtain ⟨s1, s2⟩ := a4 h0
    exact ⟨hco 0 s1, fun h1 h2 => hkp 0 0 (s2 h1 h2)⟩
  · cases q : bt opn' j
    · rfl
    · rcases hop' j q with g | g
      · rw [a5 j hj] at g; exact absurd g (by decide)
      · omega
  · rcases hop' j hj with g | g
    · exact hco j (a6 j g)
    · rw [g, tl_us]; exact tl_n1
  · obtain ⟨g1, g2⟩ := hsame j hoj
    obtain ⟨t1, t2⟩ := j1 j hj hne (g2 hcj) (hop j hoj).1 k' hs' hk'
    refine ⟨hco k' t1, fun v hv hB hn => hkp k' v (t2 v hv ?_ hn)⟩
    rw [g1] at hB
    exact hB
  · obtain ⟨g1, g2⟩ := hsame i hoi
    rw [g1] at hB
    exact j3 (hop i hoi).1 v hv hB
  · by_cases z : k' = k
    · subst z
      refine ⟨by rw [tl_us]; exact tl_n1, fun v hv h1 h2 => ?_⟩
      rw [tl_us, kx_all]
      exact Or.inr ⟨h1, h2⟩
    · rcases hP with hP | hP
      · obtain ⟨t1, t2⟩ := j5 k' hP hk'
        exact ⟨hco k' t1, fun v hv h1 h2 => hkp k' v (t2 v hv h1 h2)⟩
      · exact absurd hP z
  · have hsum := sm_up (f := fun j => (64 - (a_keeps (16 * m + j)).toBitVec.toNat) + (if a_come (16 * m + j) = 0 then 1 else 0)) (g := fun j => (64 - ((upd a_keeps (16 * m + k) (a_keeps (16 * m + k) ||| (set &&& a_need (16 * m + k)))) (16 * m + j)).toBitVec.toNat) + (if (upd a_come (16 * m + k) 1) (16 * m + j) = 0 then 1 else 0)) (k := k) (n := 16) (by omega) (fun j _ hj => by
      show (64 - ((upd a_keeps (16 * m + k) (a_keeps (16 * m + k) ||| (set &&& a_need (16 * m + k)))) (16 * m + j)).toBitVec.toNat) + (if (upd a_come (16 * m + k) 1) (16 * m + j) = 0 then 1 else 0) = (64 - (a_keeps (16 * m + j)).toBitVec.toNat) + (if a_come (16 * m + j) = 0 then 1 else 0)
      rw [tl_un (by omega), tl_un (by omega)])
    rw [tl_us, tl_us, if_neg tl_n1'] at hsum
    have h64 := mk_64 hall6
    have hmono := mk_le (x := a_keeps (16 * m + k)) (y := a_keeps (16 * m + k) ||| (set &&& a_need (16 * m + k))) (fun v hv => by rw [kx_all]; exact Or.inl hv)
    unfold kx_ms
    rcases hr with rfl | rfl
    · obtain ⟨q1, q2⟩ := hr0.mp rfl
      rw [q2, if_neg q1] at hsum
      rw [e0 rfl, q2]
      omega
    · have hlt : (64 - (a_keeps (16 * m + k) ||| (set &&& a_need (16 * m + k))).toBitVec.toNat) + 1 ≤ (64 - (a_keeps (16 * m + k)).toBitVec.toNat) + (if a_come (16 * m + k) = 0 then 1 else 0) := by
        by_cases z : a_come (16 * m + k) = 0
        · rw [if_pos z]; omega
        · rw [if_neg z]
          have hne : a_keeps (16 * m + k) ||| (set &&& a_need (16 * m + k)) ≠ a_keeps (16 * m + k) := fun w => tl_n1' (hr0.mpr ⟨z, w⟩)
          have := mk_lt (x := a_keeps (16 * m + k)) (y := a_keeps (16 * m + k) ||| (set &&& a_need (16 * m + k))) (fun v hv => by rw [kx_all]; exact Or.inl hv) hne
          omega
      have hpc := kx_pcs (x := opn) (show k < 16 by omega)
      rw [e1 rfl]
      omega
theorem xk_arr {set : Int32} (hC : cd_C a_length a_ops a_firsts a_seconds a_thirds b_as b_bs) (hm : m < 4) (hk : k < rn_len a_length m) (hk6 : mkL 6 (a_keeps (16 * m + k))) (hn6 : mkL 6 (a_need (16 * m + k))) : ∃ r : Int32, (r = 0 ∨ r = 1) ∧
    (r = 0 ↔ a_come (16 * m + k) ≠ 0 ∧ a_keeps (16 * m + k) ||| (set &&& a_need (16 * m + k)) = a_keeps (16 * m + k)) ∧
    ∀ post : Int32 → SX → Prop, post r (f_known, f_depth, f_brief, f_outCount, f_endCount, f_ups, f_downs, f_steps, f_made, f_alive, f_gift, f_ended, f_stopped, a_length, a_lends, a_ops, a_firsts, a_seconds, a_thirds, a_need, a_loan, a_hands, upd a_keeps (16 * m + k) (a_keeps (16 * m + k) ||| (set &&& a_need (16 * m + k))), upd a_come (16 * m + k) 1, a_numbers, a_ints, a_counts, a_fields, a_ending, a_stage, a_fMethod, a_fLine, a_held, a_lent, a_outs, a_ends) → wpX_arrive post (f_known, f_depth, f_brief, f_outCount, f_endCount, f_ups, f_downs, f_steps, f_made, f_alive, f_gift, f_ended, f_stopped, a_length, a_lends, a_ops, a_firsts, a_seconds, a_thirds, a_need, a_loan, a_hands, a_keeps, a_come, a_numbers, a_ints, a_counts, a_fields, a_ending, a_stage, a_fMethod, a_fLine, a_held, a_lent, a_outs, a_ends) (nI m) (nI k) set := by
  have hl := cd_len hC hm
  have ck : (nI (16 * m + k)).toNatClampNeg = 16 * m + k := nI_clamp (by omega)
  have vk : vp_in (nI (16 * m + k)) 64 := vp_in_nI (by omega) (by omega)
  have cm : (nI m).toNatClampNeg = m := nI_clamp (by omega)
  have vm : vp_in (nI m) 4 := vp_in_nI (by omega) (by omega)
  have h6 : mkL 6 (a_keeps (16 * m + k) ||| (set &&& a_need (16 * m + k))) := mk_or hk6 (mk_and' hn6)
  have K66 : ∀ (z0 : Int32) (post : Int32 → SX → Prop), (z0 = 0 ∨ z0 = 1) → post z0 (f_known, f_depth, f_brief, f_outCount, f_endCount, f_ups, f_downs, f_steps, f_made, f_alive, f_gift, f_ended, f_stopped, a_length, a_lends, a_ops, a_firsts, a_seconds, a_thirds, a_need, a_loan, a_hands, upd a_keeps (16 * m + k) (a_keeps (16 * m + k) ||| (set &&& a_need (16 * m + k))), upd a_come (16 * m + k) 1, a_numbers, a_ints, a_counts, a_fields, a_ending, a_stage, a_fMethod, a_fLine, a_held, a_lent, a_outs, a_ends) → wX_arrive_66 post (nI (16 * m + k)) (a_keeps (16 * m + k) ||| (set &&& a_need (16 * m + k))) z0 f_known f_depth f_brief f_outCount f_endCount f_ups f_downs f_steps f_made f_alive f_gift f_ended f_stopped a_length a_lends a_ops a_firsts a_seconds a_thirds a_need a_loan a_hands a_keeps a_come a_numbers a_ints a_counts a_fields a_ending a_stage a_fMethod a_fLine a_held a_lent a_outs a_ends := by
    intro z0 post hz hp
    refine And.intro vk (nm_r (e' := upd a_come (16 * m + k) 1) (by rw [ck, tl_nz1]) (And.intro vk (nm_r (e' := upd a_keeps (16 * m + k) (a_keeps (16 * m + k) ||| (set &&& a_need (16 * m + k)))) (by rw [ck, mk_nb h6]) (And.intro ?_ hp))))
    exact (rn_b01 hz).1
  have front : ∀ post : Int32 → SX → Prop, ((a_come (16 * m + k) = 0 → wX_arrive_66 post (nI (16 * m + k)) (a_keeps (16 * m + k) ||| (set &&& a_need (16 * m + k))) 1 f_known f_depth f_brief f_outCount f_endCount f_ups f_downs f_steps f_made f_alive f_gift f_ended f_stopped a_length a_lends a_ops a_firsts a_seconds a_thirds a_need a_loan a_hands a_keeps a_come a_numbers a_ints a_counts a_fields a_ending a_stage a_fMethod a_fLine a_held a_lent a_outs a_ends) ∧ (¬ a_come (16 * m + k) = 0 → ((a_keeps (16 * m + k) ||| (set &&& a_need (16 * m + k)) = a_keeps (16 * m + k) → wX_arrive_66 post (nI (16 * m + k)) (a_keeps (16 * m + k) ||| (set &&& a_need (16 * m + k))) 0 f_known f_depth f_brief f_outCount f_endCount f_ups f_downs f_steps f_made f_alive f_gift f_ended f_stopped a_length a_lends a_ops a_firsts a_seconds a_thirds a_need a_loan a_hands a_keeps a_come a_numbers a_ints a_counts a_fields a_ending a_stage a_fMethod a_fLine a_held a_lent a_outs a_ends) ∧ (¬ a_keeps (16 * m + k) ||| (set &&& a_need (16 * m + k)) = a_keeps (16 * m + k) → wX_arrive_66 post (nI (16 * m + k)) (a_keeps (16 * m + k) ||| (set &&& a_need (16 * m + k))) 1 f_known f_depth f_brief f_outCount f_endCount f_ups f_downs f_steps f_made f_alive f_gift f_ended f_stopped a_length a_lends a_ops a_firsts a_seconds a_thirds a_need a_loan a_hands a_keeps a_come a_numbers a_ints a_counts a_fields a_ending a_stage a_fMethod a_fLine a_held a_lent a_outs a_ends)))) → wpX_arrive post (f_known, f_depth, f_brief, f_outCount, f_endCount, f_ups, f_downs, f_steps, f_made, f_alive, f_gift, f_ended, f_stopped, a_length, a_lends, a_ops, a_firsts, a_seconds, a_thirds, a_need, a_loan, a_hands, a_keeps, a_come, a_numbers, a_ints, a_counts, a_fields, a_ending, a_stage, a_fMethod, a_fLine, a_held, a_lent, a_outs, a_ends) (nI m) (nI k) set := by
    intro post h
    unfold wpX_arrive
    dsimp only
    rw [cm, hl.2]
    refine ⟨vm, br_t (nI_lt hk (by omega)) (nm_r (tl_16 m k) ⟨vk, vk, ?_⟩)⟩
    rw [ck]
    refine nm_e ⟨vk, h.1, fun z => ⟨vk, (h.2 z).1, (h.2 z).2⟩⟩
  by_cases z1 : a_come (16 * m + k) = 0
  · exact ⟨1, Or.inr rfl, ⟨fun z => absurd z tl_n1', fun z => absurd z1 z.1⟩, fun post hp => front post (br_t z1 (K66 1 post (Or.inr rfl) hp))⟩
  · by_cases z2 : a_keeps (16 * m + k) ||| (set &&& a_need (16 * m + k)) = a_keeps (16 * m + k)
    · exact ⟨0, Or.inl rfl, ⟨fun _ => ⟨z1, z2⟩, fun _ => rfl⟩, fun post hp => front post (br_f z1 (br_t z2 (K66 0 post (Or.inl rfl) hp)))⟩
    · exact ⟨1, Or.inr rfl, ⟨fun z => absurd z tl_n1', fun z => absurd z.2 z2⟩, fun post hp => front post (br_f z1 (br_f z2 (K66 1 post (Or.inr rfl) hp)))⟩
theorem xk_arn {set : Int32} {post : Int32 → SX → Prop} (hC : cd_C a_length a_ops a_firsts a_seconds a_thirds b_as b_bs) (hm : m < 4) (hk : ¬ k < rn_len a_length m) (hk16 : k < 2 ^ 30) (hp : post 0 (f_known, f_depth, f_brief, f_outCount, f_endCount, f_ups, f_downs, f_steps, f_made, f_alive, f_gift, f_ended, f_stopped, a_length, a_lends, a_ops, a_firsts, a_seconds, a_thirds, a_need, a_loan, a_hands, a_keeps, a_come, a_numbers, a_ints, a_counts, a_fields, a_ending, a_stage, a_fMethod, a_fLine, a_held, a_lent, a_outs, a_ends)) : wpX_arrive post (f_known, f_depth, f_brief, f_outCount, f_endCount, f_ups, f_downs, f_steps, f_made, f_alive, f_gift, f_ended, f_stopped, a_length, a_lends, a_ops, a_firsts, a_seconds, a_thirds, a_need, a_loan, a_hands, a_keeps, a_come, a_numbers, a_ints, a_counts, a_fields, a_ending, a_stage, a_fMethod, a_fLine, a_held, a_lent, a_outs, a_ends) (nI m) (nI k) set := by
  have hl := cd_len hC hm
  have cm : (nI m).toNatClampNeg = m := nI_clamp (by omega)
  have vm : vp_in (nI m) 4 := vp_in_nI (by omega) (by omega)
  unfold wpX_arrive
  dsimp only
  rw [cm, hl.2]
  exact ⟨vm, br_f (nI_nlt (by omega) (by omega)) hp⟩
end
end
section
section
variable {f_known f_depth f_brief f_outCount f_endCount f_ups f_downs f_steps f_made f_alive f_gift f_ended f_stopped : Int32} {a_length a_lends a_ops a_firsts a_seconds a_thirds a_need a_loan a_hands a_keeps a_come a_numbers a_ints a_counts a_fields a_ending a_stage a_fMethod a_fLine a_held a_lent a_outs a_ends : Nat → Int32}
variable {g_known g_made g_living g_counted g_less g_depth g_begun g_given g_outcome g_isShort g_ran g_put g_ended : Int32} {b_ops b_as b_bs b_cs b_size b_lent b_need b_plans b_keep b_value b_fields b_alive b_method b_pc b_variable b_loan b_outs b_ends b_todo b_phase : Nat → Int32}
variable {m i l k : Nat}
theorem kx_Jm {set opn : Int32} {P P' : Nat → Prop} (h : ∀ j, j < rn_len a_length m → P' j → P j) (hJ : kx_J a_length a_lends a_ops a_firsts a_seconds a_thirds a_need a_loan a_hands m a_keeps a_come opn i set P) : kx_J a_length a_lends a_ops a_firsts a_seconds a_thirds a_need a_loan a_hands m a_keeps a_come opn i set P' :=
  ⟨hJ.1, hJ.2.1, hJ.2.2.1, hJ.2.2.2.1, hJ.2.2.2.2.1, fun k hP hk => hJ.2.2.2.2.2 k (h k hk hP) hk⟩
/-- X: the way by a jump -/
theorem xk_163 {set opn : Int32} {P : Nat → Prop} (hC : cd_C a_length a_ops a_firsts a_seconds a_thirds b_as b_bs) (hm : m < 4) (hi : i < rn_len a_length m) (hn6 : ∀ j, j < rn_len a_length m → mkL 6 (a_need (16 * m + j))) (hJ : kx_J a_length a_lends a_ops a_firsts a_seconds a_thirds a_need a_loan a_hands m a_keeps a_come opn i set P) :
    ∃ (a_keeps' a_come' : Nat → Int32) (opn' : Int32), kx_J a_length a_lends a_ops a_firsts a_seconds a_thirds a_need a_loan a_hands m a_keeps' a_come' opn' i set (fun j => P j ∨ (an_jp (a_ops (16 * m + i)) ∧ a_thirds (16 * m + i) = nI j)) ∧ kx_ms m a_keeps' a_come' opn' ≤ kx_ms m a_keeps a_come opn ∧ (∀ q, (q < 16 * m ∨ 16 * m + 16 ≤ q) → a_keeps' q = a_keeps q ∧ a_come' q = a_come q) ∧
      ∀ (post : SX → Prop) (J : Int32 → Int32 → Int32 → Int32 → Int32 → Int32 → Int32 → Int32 → Int32 → Int32 → Int32 → Int32 → Int32 → Int32 → (Nat → Int32) → (Nat → Int32) → (Nat → Int32) → (Nat → Int32) → (Nat → Int32) → (Nat → Int32) → (Nat → Int32) → (Nat → Int32) → (Nat → Int32) → (Nat → Int32) → (Nat → Int32) → (Nat → Int32) → (Nat → Int32) → (Nat → Int32) → (Nat → Int32) → (Nat → Int32) → (Nat → Int32) → (Nat → Int32) → (Nat → Int32) → (Nat → Int32) → (Nat → Int32) → (Nat → Int32) → (Nat → Int32) → Prop), J opn' f_known f_depth f_brief f_outCount f_endCount f_ups f_downs f_steps f_made f_alive f_gift f_ended f_stopped a_length a_lends a_ops a_firsts a_seconds a_thirds a_need a_loan a_hands a_keeps' a_come' a_numbers a_ints a_counts a_fields a_ending a_stage a_fMethod a_fLine a_held a_lent a_outs a_ends → wX_keep_163 post J (nI m) opn (nI (16 * m + i)) set f_known f_depth f_brief f_outCount f_endCount f_ups f_downs f_steps f_made f_alive f_gift f_ended f_stopped a_length a_lends a_ops a_firsts a_seconds a_thirds a_need a_loan a_hands a_keeps a_come a_numbers a_ints a_counts a_fields a_ending a_stage a_fMethod a_fLine a_held a_lent a_outs a_ends := by
  have hl := cd_len hC hm
  have ck : (nI (16 * m + i)).toNatClampNeg = 16 * m + i := nI_clamp (by omega)
  have vk : vp_in (nI (16 * m + i)) 64 := vp_in_nI (by omega) (by omega)
  by_cases hp : an_jp (a_ops (16 * m + i))
  · obtain ⟨c, hc, ec⟩ := an_jc hC (show 16 * m + i < 64 by omega) hp
    by_cases hcl : c < rn_len a_length m
    · obtain ⟨r, hr, hr0, hX⟩ := xk_arr (f_known := f_known) (f_depth := f_depth) (f_brief := f_brief) (f_outCount := f_outCount) (f_endCount := f_endCount) (f_ups := f_ups) (f_downs := f_downs) (f_steps := f_steps) (f_made := f_made) (f_alive := f_alive) (f_gift := f_gift) (f_ended := f_ended) (f_stopped := f_stopped) (a_length := a_length) (a_lends := a_lends) (a_ops := a_ops) (a_firsts := a_firsts) (a_seconds := a_seconds) (a_thirds := a_thirds) (a_need := a_need) (a_loan := a_loan) (a_hands := a_hands) (a_keeps := a_keeps) (a_come := a_come) (a_numbers := a_numbers) (a_ints := a_ints) (a_counts := a_counts) (a_fields := a_fields) (a_ending := a_ending) (a_stage := a_stage) (a_fMethod := a_fMethod) (a_fLine := a_fLine) (a_held := a_held) (a_lent := a_lent) (a_outs := a_outs) (a_ends := a_ends) (set := set) hC hm hcl (hJ.1.1 c hcl) (hn6 c hcl)
      obtain ⟨opn', e0, e1, hJ', hms⟩ := kx_arr hC hm hi hn6 (an_sc.mpr (Or.inr ⟨hp, ec⟩)) hcl hr hr0 hJ
      refine ⟨_, _, opn', kx_Jm (fun j hj hP => ?_) hJ', hms, fun q hq => ⟨tl_un (by omega), tl_un (by omega)⟩, fun post J h => ?_⟩
      · rcases hP with hP | ⟨_, e⟩
        · exact Or.inl hP
        · exact Or.inr (tl_inj (ec.symm.trans e) (by omega) (by omega)).symm
      · unfold wX_keep_163
        rw [ck, ec]
        refine ⟨vk, xa_jumps (fun _ => br_f tl_n1' ⟨vk, hX _ ?_⟩) (fun z => absurd hp z)⟩
        rcases hr with rfl | rfl
        · rw [e0 rfl] at h
          exact br_t rfl (br_t rfl h)
        · rw [e1 rfl] at h
          refine br_f tl_n1' (br_f tl_n1' ?_)
          rw [ck, ec]
          exact ⟨vk, nm_e h⟩
    · refine ⟨a_keeps, a_come, opn, kx_Jm (fun j hj hP => ?_) hJ, Nat.le_refl _, fun q _ => ⟨rfl, rfl⟩, fun post J h => ?_⟩
      · rcases hP with hP | ⟨_, e⟩
        · exact hP
        · have := tl_inj (ec.symm.trans e) (by omega) (by omega)
          omega
      · unfold wX_keep_163
        rw [ck, ec]
        exact ⟨vk, xa_jumps (fun _ => br_f tl_n1' ⟨vk, xk_arn hC hm hcl (by omega) (br_t rfl (br_t rfl h))⟩) (fun z => absurd hp z)⟩
  · refine ⟨a_keeps, a_come, opn, kx_Jm (fun j hj hP => ?_) hJ, Nat.le_refl _, fun q _ => ⟨rfl, rfl⟩, fun post J h => ?_⟩
    · rcases hP with hP | ⟨e, _⟩
      · exact hP
      · exact absurd e hp
    · unfold wX_keep_163
      rw [ck]
      exact ⟨vk, xa_jumps (fun z => absurd z hp) (fun _ => br_t rfl (br_t rfl h))⟩
/-- X: the way to the next line -/
theorem xk_go {set opn : Int32} {P : Nat → Prop} (hC : cd_C a_length a_ops a_firsts a_seconds a_thirds b_as b_bs) (hm : m < 4) (hi : i < rn_len a_length m) (hn6 : ∀ j, j < rn_len a_length m → mkL 6 (a_need (16 * m + j))) (hJ : kx_J a_length a_lends a_ops a_firsts a_seconds a_thirds a_need a_loan a_hands m a_keeps a_come opn i set P) :
    ∃ (a_keeps' a_come' : Nat → Int32) (opn' : Int32), kx_J a_length a_lends a_ops a_firsts a_seconds a_thirds a_need a_loan a_hands m a_keeps' a_come' opn' i set (fun j => P j ∨ (an_gs (a_ops (16 * m + i)) ∧ j = i + 1)) ∧ kx_ms m a_keeps' a_come' opn' ≤ kx_ms m a_keeps a_come opn ∧ (∀ q, (q < 16 * m ∨ 16 * m + 16 ≤ q) → a_keeps' q = a_keeps q ∧ a_come' q = a_come q) ∧
      ∀ (post : SX → Prop) (J : Int32 → Int32 → Int32 → Int32 → Int32 → Int32 → Int32 → Int32 → Int32 → Int32 → Int32 → Int32 → Int32 → Int32 → (Nat → Int32) → (Nat → Int32) → (Nat → Int32) → (Nat → Int32) → (Nat → Int32) → (Nat → Int32) → (Nat → Int32) → (Nat → Int32) → (Nat → Int32) → (Nat → Int32) → (Nat → Int32) → (Nat → Int32) → (Nat → Int32) → (Nat → Int32) → (Nat → Int32) → (Nat → Int32) → (Nat → Int32) → (Nat → Int32) → (Nat → Int32) → (Nat → Int32) → (Nat → Int32) → (Nat → Int32) → (Nat → Int32) → Prop), wX_keep_163 post J (nI m) opn' (nI (16 * m + i)) set f_known f_depth f_brief f_outCount f_endCount f_ups f_downs f_steps f_made f_alive f_gift f_ended f_stopped a_length a_lends a_ops a_firsts a_seconds a_thirds a_need a_loan a_hands a_keeps' a_come' a_numbers a_ints a_counts a_fields a_ending a_stage a_fMethod a_fLine a_held a_lent a_outs a_ends →
        wpX_goesOn (fun r_86 => ((r_86 = 0 → wX_keep_146 post J (nI m) opn (nI i) (nI (16 * m + i)) set f_known f_depth f_brief f_outCount f_endCount f_ups f_downs f_steps f_made f_alive f_gift f_ended f_stopped a_length a_lends a_ops a_firsts a_seconds a_thirds a_need a_loan a_hands a_keeps a_come a_numbers a_ints a_counts a_fields a_ending a_stage a_fMethod a_fLine a_held a_lent a_outs a_ends) ∧ (¬ r_86 = 0 → wpX_arrive (fun r_135 u => match u with | (f_known, f_depth, f_brief, f_outCount, f_endCount, f_ups, f_downs, f_steps, f_made, f_alive, f_gift, f_ended, f_stopped, a_length, a_lends, a_ops, a_firsts, a_seconds, a_thirds, a_need, a_loan, a_hands, a_keeps, a_come, a_numbers, a_ints, a_counts, a_fields, a_ending, a_stage, a_fMethod, a_fLine, a_held, a_lent, a_outs, a_ends) => ((r_135 = 0 → wX_keep_146 post J (nI m) opn (nI i) (nI (16 * m + i)) set f_known f_depth f_brief f_outCount f_endCount f_ups f_downs f_steps f_made f_alive f_gift f_ended f_stopped a_length a_lends a_ops a_firsts a_seconds a_thirds a_need a_loan a_hands a_keeps a_come a_numbers a_ints a_counts a_fields a_ending a_stage a_fMethod a_fLine a_held a_lent a_outs a_ends) ∧ (¬ r_135 = 0 → wX_keep_147 post J (nI m) opn (nI i) (nI (16 * m + i)) set 1 f_known f_depth f_brief f_outCount f_endCount f_ups f_downs f_steps f_made f_alive f_gift f_ended f_stopped a_length a_lends a_ops a_firsts a_seconds a_thirds a_need a_loan a_hands a_keeps a_come a_numbers a_ints a_counts a_fields a_ending a_stage a_fMethod a_fLine a_held a_lent a_outs a_ends))) (f_known, f_depth, f_brief, f_outCount, f_endCount, f_ups, f_downs, f_steps, f_made, f_alive, f_gift, f_ended, f_stopped, a_length, a_lends, a_ops, a_firsts, a_seconds, a_thirds, a_need, a_loan, a_hands, a_keeps, a_come, a_numbers, a_ints, a_counts, a_fields, a_ending, a_stage, a_fMethod, a_fLine, a_held, a_lent, a_outs, a_ends) (nI m) (nI i + 1) set))) (a_ops (16 * m + i)) := by
  have hl := cd_len hC hm
  by_cases hg : an_gs (a_ops (16 * m + i))
  · by_cases hcl : i + 1 < rn_len a_length m
    · obtain ⟨r, hr, hr0, hX⟩ := xk_arr (f_known := f_known) (f_depth := f_depth) (f_brief := f_brief) (f_outCount := f_outCount) (f_endCount := f_endCount) (f_ups := f_ups) (f_downs := f_downs) (f_steps := f_steps) (f_made := f_made) (f_alive := f_alive) (f_gift := f_gift) (f_ended := f_ended) (f_stopped := f_stopped) (a_length := a_length) (a_lends := a_lends) (a_ops := a_ops) (a_firsts := a_firsts) (a_seconds := a_seconds) (a_thirds := a_thirds) (a_need := a_need) (a_loan := a_loan) (a_hands := a_hands) (a_keeps := a_keeps) (a_come := a_come) (a_numbers := a_numbers) (a_ints := a_ints) (a_counts := a_counts) (a_fields := a_fields) (a_ending := a_ending) (a_stage := a_stage) (a_fMethod := a_fMethod) (a_fLine := a_fLine) (a_held := a_held) (a_lent := a_lent) (a_outs := a_outs) (a_ends := a_ends) (set := set) hC hm hcl (hJ.1.1 _ hcl) (hn6 _ hcl)
      obtain ⟨opn', e0, e1, hJ', hms⟩ := kx_arr hC hm hi hn6 (an_sc.mpr (Or.inl ⟨hg, rfl⟩)) hcl hr hr0 hJ
      refine ⟨_, _, opn', kx_Jm (fun j hj hP => ?_) hJ', hms, fun q hq => ⟨tl_un (by omega), tl_un (by omega)⟩, fun post J h => ?_⟩
      · rcases hP with hP | ⟨_, e⟩
        · exact Or.inl hP
        · exact Or.inr e
      · refine xa_goes (fun _ => br_f tl_n1' ?_) (fun z => absurd hg z)
        rw [nI_1]
        refine hX _ ?_
        rcases hr with rfl | rfl
        · rw [e0 rfl] at h
          exact br_t rfl (br_t rfl h)
        · rw [e1 rfl] at h
          refine br_f tl_n1' (br_f tl_n1' ?_)
          rw [nI_1]
          exact nm_e h
    · refine ⟨a_keeps, a_come, opn, kx_Jm (fun j hj hP => ?_) hJ, Nat.le_refl _, fun q _ => ⟨rfl, rfl⟩, fun post J h => ?_⟩
      · rcases hP with hP | ⟨_, e⟩
        · exact hP
        · omega
      · refine xa_goes (fun _ => br_f tl_n1' ?_) (fun z => absurd hg z)
        rw [nI_1]
        exact xk_arn hC hm hcl (by omega) (br_t rfl (br_t rfl h))
  · refine ⟨a_keeps, a_come, opn, kx_Jm (fun j hj hP => ?_) hJ, Nat.le_refl _, fun q _ => ⟨rfl, rfl⟩, fun post J h => ?_⟩
    · rcases hP with hP | ⟨e, _⟩
      · exact hP
      · exact absurd e hg
    · exact xa_goes (fun z => absurd z hg) (fun _ => br_t rfl (br_t rfl h))
theorem xk_74s {post : SX → Prop} {J : Int32 → Int32 → Int32 → Int32 → Int32 → Int32 → Int32 → Int32 → Int32 → Int32 → Int32 → Int32 → Int32 → Int32 → (Nat → Int32) → (Nat → Int32) → (Nat → Int32) → (Nat → Int32) → (Nat → Int32) → (Nat → Int32) → (Nat → Int32) → (Nat → Int32) → (Nat → Int32) → (Nat → Int32) → (Nat → Int32) → (Nat → Int32) → (Nat → Int32) → (Nat → Int32) → (Nat → Int32) → (Nat → Int32) → (Nat → Int32) → (Nat → Int32) → (Nat → Int32) → (Nat → Int32) → (Nat → Int32) → (Nat → Int32) → (Nat → Int32) → Prop} {opn : Int32} {h : Nat} (hh : h < 32) (hs : ∀ j, j < h → bt opn j = false) (hb : wX_keep_74 post J (nI m) opn f_known f_depth f_brief f_outCount f_endCount f_ups f_downs f_steps f_made f_alive f_gift f_ended f_stopped a_length a_lends a_ops a_firsts a_seconds a_thirds a_need a_loan a_hands a_keeps a_come a_numbers a_ints a_counts a_fields a_ending a_stage a_fMethod a_fLine a_held a_lent a_outs a_ends 1 (nI h)) : ∀ d j, j + d = h → wX_keep_74 post J (nI m) opn f_known f_depth f_brief f_outCount f_endCount f_ups f_downs f_steps f_made f_alive f_gift f_ended f_stopped a_length a_lends a_ops a_firsts a_seconds a_thirds a_need a_loan a_hands a_keeps a_come a_numbers a_ints a_counts a_fields a_ending a_stage a_fMethod a_fLine a_held a_lent a_outs a_ends (d + 1) (nI j) := by
  intro d
  induction d with
  | zero =>
    intro j hj
    have e : j = h := by omega
    subst e
    exact hb
  | succ d ih =>
    intro j hj
    rw [wX_keep_74]
    refine vg_has (by omega) ?_
    rw [hs j (by omega), if_neg (by decide)]
    exact br_t rfl (nm_r (nI_1 j) (ih (j + 1) (by omega)))
def kx_K (m : Nat) (a_keeps a_come : Nat → Int32) (j v : Nat) : Prop := (v = 6 ∧ a_come (16 * m + j) ≠ 0) ∨ (v < 6 ∧ bt (a_keeps (16 * m + j)) v = true)
def kx_OK (a_length a_lends a_ops a_firsts a_seconds a_thirds a_need a_loan a_hands : Nat → Int32) (m : Nat) (a_keeps a_come : Nat → Int32) : Prop :=
  (∀ j, j < rn_len a_length m → mkL 6 (a_keeps (16 * m + j))) ∧ (∀ j, j < rn_len a_length m → a_come (16 * m + j) = 0 → a_keeps (16 * m + j) = 0) ∧
  (∀ K, kc_C a_length a_lends a_ops a_firsts a_seconds a_thirds a_need a_loan a_hands m K → ∀ j, j < rn_len a_length m → (a_come (16 * m + j) ≠ 0 → K j 6) ∧ ∀ v, bt (a_keeps (16 * m + j)) v = true → K j v) ∧ kc_C a_length a_lends a_ops a_firsts a_seconds a_thirds a_need a_loan a_hands m (kx_K m a_keeps a_come)
theorem kx_end (h : kx_I a_length a_lends a_ops a_firsts a_seconds a_thirds a_need a_loan a_hands m a_keeps a_come 0) : kx_OK a_length a_lends a_ops a_firsts a_seconds a_thirds a_need a_loan a_hands m a_keeps a_come := by
  obtain ⟨⟨a1, a2, a3, a4, a5, a6⟩, hst⟩ := h
  have k6 : ∀ j, kx_K m a_keeps a_come j 6 ↔ a_come (16 * m + j) ≠ 0 := fun j => ⟨fun g => g.elim (fun q => q.2) (fun q => absurd q.1 (by omega)), fun g => Or.inl ⟨rfl, g⟩⟩
  have kv : ∀ j v, v < 6 → (kx_K m a_keeps a_come j v ↔ bt (a_keeps (16 * m + j)) v = true) := fun j v hv => ⟨fun g => g.elim (fun q => absurd q.1 (by omega)) (fun q => q.2), fun g => Or.inr ⟨hv, g⟩⟩
  refine ⟨a1, a2, a3, fun h0 => ⟨(k6 0).mpr (a4 h0).1, fun h1 h2 => (kv 0 0 (by omega)).mpr ((a4 h0).2 h1 h2)⟩, fun j hj hK k hs hk => ?_⟩
  obtain ⟨t1, t2⟩ := hst j hj ((k6 j).mp hK) (b_0 j) k hs hk
  exact ⟨(k6 k).mpr t1, fun v hv hB hn => (kv k v hv).mpr (t2 v hv (kp_mono (fun g => (kv j v hv).mp g) hB) hn)⟩
theorem xk_67 (hC : cd_C a_length a_ops a_firsts a_seconds a_thirds b_as b_bs) (hm : m < 4) (hn6 : ∀ j, j < rn_len a_length m → mkL 6 (a_need (16 * m + j))) (hhb : ∀ j, j < rn_len a_length m → a_hands (16 * m + j) ≠ 0 → ∃ b, b < 6 ∧ a_seconds (16 * m + j) = nI b) : ∀ (μ : Nat) (a_keeps a_come : Nat → Int32) (opn : Int32), kx_I a_length a_lends a_ops a_firsts a_seconds a_thirds a_need a_loan a_hands m a_keeps a_come opn → kx_ms m a_keeps a_come opn ≤ μ →
    ∃ a_keeps' a_come' : Nat → Int32, kx_OK a_length a_lends a_ops a_firsts a_seconds a_thirds a_need a_loan a_hands m a_keeps' a_come' ∧ (∀ q, (q < 16 * m ∨ 16 * m + 16 ≤ q) → a_keeps' q = a_keeps q ∧ a_come' q = a_come q) ∧ ∀ (post : SX → Prop) n, μ < n → post (f_known, f_depth, f_brief, f_outCount, f_endCount, f_ups, f_downs, f_steps, f_made, f_alive, f_gift, f_ended, f_stopped, a_length, a_lends, a_ops, a_firsts, a_seconds, a_thirds, a_need, a_loan, a_hands, a_keeps', a_come', a_numbers, a_ints, a_counts, a_fields, a_ending, a_stage, a_fMethod, a_fLine, a_held, a_lent, a_outs, a_ends) → wX_keep_67 post (nI m) n opn f_known f_depth f_brief f_outCount f_endCount f_ups f_downs f_steps f_made f_alive f_gift f_ended f_stopped a_length a_lends a_ops a_firsts a_seconds a_thirds a_need a_loan a_hands a_keeps a_come a_numbers a_ints a_counts a_fields a_ending a_stage a_fMethod a_fLine a_held a_lent a_outs a_ends := by
  have hl := cd_len hC hm
  intro μ
  induction μ with
  | zero =>
    intro a_keeps a_come opn hI hms
    have ho : opn = 0 := by
      refine Classical.byContradiction (fun hne => ?_)
      obtain ⟨h, hh, hbt, _⟩ := yl_lb hne
      have hhl := bt_lt hI.1.2.2.2.2.1 hbt
      have := sm_ge (f := fun j => if bt opn j = true then 1 else 0) (k := h) (n := 16) (by omega)
      have e1 : (if bt opn h = true then 1 else 0) = 1 := if_pos hbt
      rw [e1] at this
      unfold kx_ms nd_pc at hms
      omega
    subst ho
    refine ⟨a_keeps, a_come, kx_end hI, fun _ _ => ⟨rfl, rfl⟩, fun post n hn hp => ?_⟩
    obtain ⟨n', rfl⟩ : ∃ n', n = n' + 1 := ⟨n - 1, by omega⟩
    rw [wX_keep_67]
    exact br_t rfl hp
  | succ μ ih =>
    intro a_keeps a_come opn hI hms
    by_cases ho : opn = 0
    · subst ho
      refine ⟨a_keeps, a_come, kx_end hI, fun _ _ => ⟨rfl, rfl⟩, fun post n hn hp => ?_⟩
      obtain ⟨n', rfl⟩ : ∃ n', n = n' + 1 := ⟨n - 1, by omega⟩
      rw [wX_keep_67]
      exact br_t rfl hp
    · obtain ⟨⟨a1, a2, a3, a4, a5, a6⟩, hst⟩ := hI
      obtain ⟨h, hh, hbt, hlow⟩ := yl_lb ho
      have hhl := bt_lt a5 hbt
      have ck : (nI (16 * m + h)).toNatClampNeg = 16 * m + h := nI_clamp (by omega)
      have vk : vp_in (nI (16 * m + h)) 64 := vp_in_nI (by omega) (by omega)
      have hclr : ∀ k, bt (opn &&& (((1 : Int32) <<< (nI h &&& 31)) ^^^ (-1))) k = (bt opn k && !decide (k = h)) := fun k => bt_clr opn (by omega) k
      obtain ⟨set, s1, s2, s3⟩ := xa_kept (f_known := f_known) (f_depth := f_depth) (f_brief := f_brief) (f_outCount := f_outCount) (f_endCount := f_endCount) (f_ups := f_ups) (f_downs := f_downs) (f_steps := f_steps) (f_made := f_made) (f_alive := f_alive) (f_gift := f_gift) (f_ended := f_ended) (f_stopped := f_stopped) (a_length := a_length) (a_lends := a_lends) (a_ops := a_ops) (a_firsts := a_firsts) (a_seconds := a_seconds) (a_thirds := a_thirds) (a_need := a_need) (a_loan := a_loan) (a_hands := a_hands) (a_keeps := a_keeps) (a_come := a_come) (a_numbers := a_numbers) (a_ints := a_ints) (a_counts := a_counts) (a_fields := a_fields) (a_ending := a_ending) (a_stage := a_stage) (a_fMethod := a_fMethod) (a_fLine := a_fLine) (a_held := a_held) (a_lent := a_lent) (a_outs := a_outs) (a_ends := a_ends) hC (show 16 * m + h < 64 by omega) (a1 h hhl) (hhb h hhl)
      have hpc := nd_pcc (y := opn &&& (((1 : Int32) <<< (nI h &&& 31)) ^^^ (-1))) (show h < 16 by omega) hbt (by rw [hclr, decide_eq_true rfl]; simp) (fun k hk => by rw [hclr, decide_eq_false hk]; simp)
      have J0 : kx_J a_length a_lends a_ops a_firsts a_seconds a_thirds a_need a_loan a_hands m a_keeps a_come (opn &&& (((1 : Int32) <<< (nI h &&& 31)) ^^^ (-1))) h set (fun _ => False) := by
        refine ⟨⟨a1, a2, a3, a4, mk_and a5, fun j hj => ?_⟩, fun j hj hne hc hb k hs hk => ?_, a6 h hbt, fun _ v hv hB => (s2 v hv).mpr hB, fun K hK v hv hb => ?_, fun k hP => absurd hP id⟩
        · rw [hclr, Bool.and_eq_true] at hj
          exact a6 j hj.1
        · rw [hclr, decide_eq_false hne] at hb
          exact hst j hj hc (by simpa using hb) k hs hk
        · exact kp_mono (fun g => (a3 K hK h hhl).2 v g) ((s2 v hv).mp hb)
      obtain ⟨kp1, co1, opn1, J1, m1, f1, X1⟩ := xk_go (f_known := f_known) (f_depth := f_depth) (f_brief := f_brief) (f_outCount := f_outCount) (f_endCount := f_endCount) (f_ups := f_ups) (f_downs := f_downs) (f_steps := f_steps) (f_made := f_made) (f_alive := f_alive) (f_gift := f_gift) (f_ended := f_ended) (f_stopped := f_stopped) (a_length := a_length) (a_lends := a_lends) (a_ops := a_ops) (a_firsts := a_firsts) (a_seconds := a_seconds) (a_thirds := a_thirds) (a_need := a_need) (a_loan := a_loan) (a_hands := a_hands) (a_numbers := a_numbers) (a_ints := a_ints) (a_counts := a_counts) (a_fields := a_fields) (a_ending := a_ending) (a_stage := a_stage) (a_fMethod := a_fMethod) (a_fLine := a_fLine) (a_held := a_held) (a_lent := a_lent) (a_outs := a_outs) (a_ends := a_ends) (a_keeps := a_keeps) (a_come := a_come) hC hm hhl hn6 J0
      obtain ⟨kp2, co2, opn2, J2, m2, f2, X2⟩ := xk_163 (f_known := f_known) (f_depth := f_depth) (f_brief := f_brief) (f_outCount := f_outCount) (f_endCount := f_endCount) (f_ups := f_ups) (f_downs := f_downs) (f_steps := f_steps) (f_made := f_made) (f_alive := f_alive) (f_gift := f_gift) (f_ended := f_ended) (f_stopped := f_stopped) (a_length := a_length) (a_lends := a_lends) (a_ops := a_ops) (a_firsts := a_firsts) (a_seconds := a_seconds) (a_thirds := a_thirds) (a_need := a_need) (a_loan := a_loan) (a_hands := a_hands) (a_numbers := a_numbers) (a_ints := a_ints) (a_counts := a_counts) (a_fields := a_fields) (a_ending := a_ending) (a_stage := a_stage) (a_fMethod := a_fMethod) (a_fLine := a_fLine) (a_held := a_held) (a_lent := a_lent) (a_outs := a_outs) (a_ends := a_ends) (a_keeps := kp1) (a_come := co1) hC hm hhl hn6 J1
      have I2 : kx_I a_length a_lends a_ops a_firsts a_seconds a_thirds a_need a_loan a_hands m kp2 co2 opn2 := by
        obtain ⟨A, j1, j2, j3, j4, j5⟩ := J2
        refine ⟨A, fun j hj hc hb k hs hk => ?_⟩
        by_cases z : j = h
        · subst z
          have hP : ((False ∨ (an_gs (a_ops (16 * m + j)) ∧ k = j + 1)) ∨ (an_jp (a_ops (16 * m + j)) ∧ a_thirds (16 * m + j) = nI k)) := by
            rcases an_sc.mp hs with g | g
            · exact Or.inl (Or.inr g)
            · exact Or.inr g
          obtain ⟨t1, t2⟩ := j5 k hP hk
          exact ⟨t1, fun v hv hB hn => t2 v hv (j3 hb v hv hB) hn⟩
        · exact j1 j hj z hc hb k hs hk
      obtain ⟨a_keeps', a_come', hOK, hfr, hX⟩ := ih kp2 co2 opn2 I2 (by unfold kx_ms at hms m1 m2 ⊢; omega)
      refine ⟨a_keeps', a_come', hOK, fun q hq => ?_, fun post n hn hp => ?_⟩
      · rw [(hfr q hq).1, (hfr q hq).2, (f2 q hq).1, (f2 q hq).2, (f1 q hq).1, (f1 q hq).2]
        exact ⟨rfl, rfl⟩
      · obtain ⟨n', rfl⟩ : ∃ n', n = n' + 1 := ⟨n - 1, by omega⟩
        rw [wX_keep_67]
        refine br_f ho ⟨h + 1, xk_74s hh hlow ?_ h 0 (by omega)⟩
        rw [wX_keep_74]
        refine vg_has hh ?_
        rw [if_pos hbt]
        refine br_f tl_n1' (nm_e (nm_r (tl_16 m h) ?_))
        refine s3 _ ⟨vk, ?_⟩
        rw [ck]
        exact X1 post _ (X2 post _ (hX post n' (by omega) hp))
def kx_z (f : Nat → Int32) (m : Nat) : Nat → Int32 := fun q => if 16 * m ≤ q ∧ q < 16 * m + 16 then 0 else f q
/-- X: lines are cleared, the first way arrives -/
theorem xk_5 {post : SX → Prop} (hC : cd_C a_length a_ops a_firsts a_seconds a_thirds b_as b_bs) (hm : m < 4) (h : (a_lends m = 0 → wX_keep_53 post (nI m) 1 0 (nI m) f_known f_depth f_brief f_outCount f_endCount f_ups f_downs f_steps f_made f_alive f_gift f_ended f_stopped a_length a_lends a_ops a_firsts a_seconds a_thirds a_need a_loan a_hands (kx_z a_keeps m) (kx_z a_come m) a_numbers a_ints a_counts a_fields a_ending a_stage a_fMethod a_fLine a_held a_lent a_outs a_ends) ∧ (¬ a_lends m = 0 → wX_keep_53 post (nI m) 0 0 (nI m) f_known f_depth f_brief f_outCount f_endCount f_ups f_downs f_steps f_made f_alive f_gift f_ended f_stopped a_length a_lends a_ops a_firsts a_seconds a_thirds a_need a_loan a_hands (kx_z a_keeps m) (kx_z a_come m) a_numbers a_ints a_counts a_fields a_ending a_stage a_fMethod a_fLine a_held a_lent a_outs a_ends)) : ∀ (d j : Nat) (kp2 co2 : Nat → Int32), j + d = 16 → (∀ q, (if 16 * m + j ≤ q ∧ q < 16 * m + 16 then 0 else kp2 q) = kx_z a_keeps m q) → (∀ q, (if 16 * m + j ≤ q ∧ q < 16 * m + 16 then 0 else co2 q) = kx_z a_come m q) →
    wX_keep_5 post (nI m) f_known f_depth f_brief f_outCount f_endCount f_ups f_downs f_steps f_made f_alive f_gift f_ended f_stopped (d + 1) (nI (16 * m + j)) a_length a_lends a_ops a_firsts a_seconds a_thirds a_need a_loan a_hands kp2 co2 a_numbers a_ints a_counts a_fields a_ending a_stage a_fMethod a_fLine a_held a_lent a_outs a_ends := by
  have cm : (nI m).toNatClampNeg = m := nI_clamp (by omega)
  have vm : vp_in (nI m) 4 := vp_in_nI (by omega) (by omega)
  have e16 : 16 * nI m + 16 = nI (16 * m + 16) := tl_16 m 16
  intro d
  induction d with
  | zero =>
    intro j kp2 co2 hj h1 h2
    have ek : kp2 = kx_z a_keeps m := by
      funext q
      rw [← h1 q, if_neg (by omega)]
    have ec : co2 = kx_z a_come m := by
      funext q
      rw [← h2 q, if_neg (by omega)]
    rw [wX_keep_5, e16, ek, ec]
    refine br_t (nI_le (by omega) (by omega)) ⟨vm, ?_⟩
    rw [cm]
    exact h
  | succ d ih =>
    intro j kp2 co2 hj h1 h2
    have ck : (nI (16 * m + j)).toNatClampNeg = 16 * m + j := nI_clamp (by omega)
    have vk : vp_in (nI (16 * m + j)) 64 := vp_in_nI (by omega) (by omega)
    have hst : ∀ (f g : Nat → Int32), (∀ q, (if 16 * m + j ≤ q ∧ q < 16 * m + 16 then 0 else f q) = kx_z g m q) → ∀ q, (if 16 * m + (j + 1) ≤ q ∧ q < 16 * m + 16 then 0 else (upd f (16 * m + j) 0) q) = kx_z g m q := by
      intro f g hs q
      rw [← hs q]
      by_cases z : q = 16 * m + j
      · rw [z, tl_us, if_neg (by omega), if_pos (by omega)]
      · rw [tl_un z]
        by_cases z2 : 16 * m + j ≤ q ∧ q < 16 * m + 16
        · rw [if_pos z2, if_pos (by omega)]
        · rw [if_neg z2, if_neg (by omega)]
    rw [wX_keep_5, e16]
    refine br_f (nI_ge (by omega) (by omega)) ?_
    rw [ck, tl_nb0, tl_nz0]
    exact ⟨vk, nm_e ⟨vk, nm_e (nm_r (nI_1 (16 * m + j)) (ih (j + 1) _ _ (by omega) (hst _ _ h1) (hst _ _ h2)))⟩⟩
/-- X finds what is kept in a method -/
theorem xa_keep (hC : cd_C a_length a_ops a_firsts a_seconds a_thirds b_as b_bs) (hm : m < 4) (hn6 : ∀ j, j < rn_len a_length m → mkL 6 (a_need (16 * m + j))) (hhb : ∀ j, j < rn_len a_length m → a_hands (16 * m + j) ≠ 0 → ∃ b, b < 6 ∧ a_seconds (16 * m + j) = nI b) : ∃ a_keeps' a_come' : Nat → Int32, kx_OK a_length a_lends a_ops a_firsts a_seconds a_thirds a_need a_loan a_hands m a_keeps' a_come' ∧ (∀ q, (q < 16 * m ∨ 16 * m + 16 ≤ q) → a_keeps' q = a_keeps q ∧ a_come' q = a_come q) ∧ ∀ post : SX → Prop, post (f_known, f_depth, f_brief, f_outCount, f_endCount, f_ups, f_downs, f_steps, f_made, f_alive, f_gift, f_ended, f_stopped, a_length, a_lends, a_ops, a_firsts, a_seconds, a_thirds, a_need, a_loan, a_hands, a_keeps', a_come', a_numbers, a_ints, a_counts, a_fields, a_ending, a_stage, a_fMethod, a_fLine, a_held, a_lent, a_outs, a_ends) → wpX_keep post (f_known, f_depth, f_brief, f_outCount, f_endCount, f_ups, f_downs, f_steps, f_made, f_alive, f_gift, f_ended, f_stopped, a_length, a_lends, a_ops, a_firsts, a_seconds, a_thirds, a_need, a_loan, a_hands, a_keeps, a_come, a_numbers, a_ints, a_counts, a_fields, a_ending, a_stage, a_fMethod, a_fLine, a_held, a_lent, a_outs, a_ends) (nI m) := by
  have hl := cd_len hC hm
  have hz : ∀ (f : Nat → Int32) j, j < 16 → (kx_z f m) (16 * m + j) = 0 := fun f j hj => if_pos (by omega)
  have hzf : ∀ (f : Nat → Int32) q, (q < 16 * m ∨ 16 * m + 16 ≤ q) → (kx_z f m) q = f q := fun f q hq => if_neg (by omega)
  -- whatever the first mask is
  have key : ∀ set : Int32, (set = 1 ∧ a_lends m = 0) ∨ (set = 0 ∧ ¬ a_lends m = 0) → ∃ a_keeps' a_come' : Nat → Int32, kx_OK a_length a_lends a_ops a_firsts a_seconds a_thirds a_need a_loan a_hands m a_keeps' a_come' ∧ (∀ q, (q < 16 * m ∨ 16 * m + 16 ≤ q) → a_keeps' q = a_keeps q ∧ a_come' q = a_come q) ∧ ∀ post : SX → Prop, post (f_known, f_depth, f_brief, f_outCount, f_endCount, f_ups, f_downs, f_steps, f_made, f_alive, f_gift, f_ended, f_stopped, a_length, a_lends, a_ops, a_firsts, a_seconds, a_thirds, a_need, a_loan, a_hands, a_keeps', a_come', a_numbers, a_ints, a_counts, a_fields, a_ending, a_stage, a_fMethod, a_fLine, a_held, a_lent, a_outs, a_ends) → wX_keep_53 post (nI m) set 0 (nI m) f_known f_depth f_brief f_outCount f_endCount f_ups f_downs f_steps f_made f_alive f_gift f_ended f_stopped a_length a_lends a_ops a_firsts a_seconds a_thirds a_need a_loan a_hands (kx_z a_keeps m) (kx_z a_come m) a_numbers a_ints a_counts a_fields a_ending a_stage a_fMethod a_fLine a_held a_lent a_outs a_ends := by
    intro set hset
    by_cases h0 : 0 < rn_len a_length m
    · obtain ⟨r, hr, hr0, hX⟩ := xk_arr (f_known := f_known) (f_depth := f_depth) (f_brief := f_brief) (f_outCount := f_outCount) (f_endCount := f_endCount) (f_ups := f_ups) (f_downs := f_downs) (f_steps := f_steps) (f_made := f_made) (f_alive := f_alive) (f_gift := f_gift) (f_ended := f_ended) (f_stopped := f_stopped) (a_length := a_length) (a_lends := a_lends) (a_ops := a_ops) (a_firsts := a_firsts) (a_seconds := a_seconds) (a_thirds := a_thirds) (a_need := a_need) (a_loan := a_loan) (a_hands := a_hands) (a_numbers := a_numbers) (a_ints := a_ints) (a_counts := a_counts) (a_fields := a_fields) (a_ending := a_ending) (a_stage := a_stage) (a_fMethod := a_fMethod) (a_fLine := a_fLine) (a_held := a_held) (a_lent := a_lent) (a_outs := a_outs) (a_ends := a_ends) (a_keeps := kx_z a_keeps m) (a_come := kx_z a_come m) (set := set) (k := 0) hC hm h0 (by rw [hz a_keeps 0 (by omega)]; exact mk_0 6) (hn6 0 h0)
      have hr1 : r = 1 := by
        rcases hr with z | z
        · exact absurd (hz a_come 0 (by omega)) (hr0.mp z).1
        · exact z
      subst hr1
      obtain ⟨kp0, ekp⟩ : ∃ f, f = upd (kx_z a_keeps m) (16 * m + 0) ((kx_z a_keeps m) (16 * m + 0) ||| (set &&& a_need (16 * m + 0))) := ⟨_, rfl⟩
      obtain ⟨co0, eco⟩ : ∃ f, f = upd (kx_z a_come m) (16 * m + 0) 1 := ⟨_, rfl⟩
      rw [← ekp, ← eco] at hX
      have hk0' : ∀ v, bt (kp0 (16 * m + 0)) v = true ↔ bt set v = true ∧ bt (a_need (16 * m + 0)) v = true := fun v => by
        rw [ekp, tl_us, hz a_keeps 0 (by omega), b_or, b_0, Bool.false_or, b_and, Bool.and_eq_true]
      have hk0 : ∀ v, bt (kp0 (16 * m)) v = true ↔ bt set v = true ∧ bt (a_need (16 * m)) v = true := hk0'
      have hkj : ∀ j, j ≠ 0 → j < 16 → kp0 (16 * m + j) = 0 := fun j h1 h2 => by rw [ekp, tl_un (by omega), hz a_keeps j h2]
      have hc0' : co0 (16 * m + 0) ≠ 0 := by rw [eco, tl_us]; exact tl_n1
      have hc0 : co0 (16 * m) ≠ 0 := hc0'
      have hcj : ∀ j, j ≠ 0 → j < 16 → co0 (16 * m + j) = 0 := fun j h1 h2 => by rw [eco, tl_un (by omega), hz a_come j h2]
      have e1 : ∀ j, bt (1 : Int32) j = decide (j = 0) := fun j => bt_one (k := 0) (by omega) j
      have hk6 : mkL 6 (kp0 (16 * m)) := fun v hv => by
        cases q : bt (kp0 (16 * m)) v
        · rfl
        · have h2 := ((hk0' v).mp q).2
          rw [hn6 0 h0 v hv] at h2
          exact absurd h2 (by decide)
      have hI : kx_I a_length a_lends a_ops a_firsts a_seconds a_thirds a_need a_loan a_hands m kp0 co0 1 := by
        refine ⟨⟨fun j hj => ?_, fun j hj hz0 => ?_, fun K hK j hj => ?_, fun _ => ⟨hc0, fun g1 g2 => ?_⟩, fun j hj => ?_, fun j hj => ?_⟩, fun j hj hc hb => ?_⟩
        · by_cases z : j = 0
          · rw [z]; exact hk6
          · rw [hkj j z (by omega)]; exact mk_0 6
        · by_cases z : j = 0
          · rw [z] at hz0; exact absurd hz0 hc0
          · exact hkj j z (by omega)
        · by_cases z : j = 0
          · rw [z]
            refine ⟨fun _ => (hK.1 h0).1, fun v hv => ?_⟩
            obtain ⟨g1, g2⟩ := (hk0 v).mp hv
            rcases hset with ⟨rfl, hls⟩ | ⟨rfl, _⟩
            · rw [e1, decide_eq_true_iff] at g1
              rw [g1] at g2 ⊢
              exact (hK.1 h0).2 hls g2
            · rw [b_0] at g1; exact absurd g1 (by decide)
          · rw [hcj j z (by omega), hkj j z (by omega)]
            refine ⟨fun q => absurd rfl q, fun v hv => ?_⟩
            rw [b_0] at hv; exact absurd hv (by decide)
        · refine (hk0 0).mpr ⟨?_, g2⟩
          rcases hset with ⟨rfl, _⟩ | ⟨_, hls⟩
          · rfl
          · exact absurd g1 hls
        · rw [e1, decide_eq_false (by omega)]
        · rw [e1, decide_eq_true_iff] at hj
          rw [hj]; exact hc0
        · by_cases z : j = 0
          · rw [z] at hb
            exact absurd hb (by decide)
          · exact absurd (hcj j z (by omega)) hc
      obtain ⟨a_keeps', a_come', hOK, hfr, hX2⟩ := xk_67 (f_known := f_known) (f_depth := f_depth) (f_brief := f_brief) (f_outCount := f_outCount) (f_endCount := f_endCount) (f_ups := f_ups) (f_downs := f_downs) (f_steps := f_steps) (f_made := f_made) (f_alive := f_alive) (f_gift := f_gift) (f_ended := f_ended) (f_stopped := f_stopped) (a_length := a_length) (a_lends := a_lends) (a_ops := a_ops) (a_firsts := a_firsts) (a_seconds := a_seconds) (a_thirds := a_thirds) (a_need := a_need) (a_loan := a_loan) (a_hands := a_hands) (a_numbers := a_numbers) (a_ints := a_ints) (a_counts := a_counts) (a_fields := a_fields) (a_ending := a_ending) (a_stage := a_stage) (a_fMethod := a_fMethod) (a_fLine := a_fLine) (a_held := a_held) (a_lent := a_lent) (a_outs := a_outs) (a_ends := a_ends) hC hm hn6 hhb _ kp0 co0 1 hI (Nat.le_refl _)
      refine ⟨a_keeps', a_come', hOK, fun q hq => ?_, fun post hp => ?_⟩
      · rw [(hfr q hq).1, (hfr q hq).2, ekp, eco, tl_un (by omega), tl_un (by omega), hzf a_keeps q hq, hzf a_come q hq]
        exact ⟨rfl, rfl⟩
      · exact hX _ (br_f tl_n1' ⟨_, hX2 post _ (Nat.lt_succ_self _) hp⟩)
    · refine ⟨kx_z a_keeps m, kx_z a_come m, ⟨fun j hj => by omega, fun j hj => by omega, fun K hK j hj => by omega, fun h => absurd h h0, fun j hj => by omega⟩, fun q hq => ⟨hzf a_keeps q hq, hzf a_come q hq⟩, fun post hp => ?_⟩
      refine xk_arn (k := 0) hC hm h0 (by omega) (br_t rfl ⟨1, ?_⟩)
      rw [wX_keep_67]
      exact br_t rfl hp
  by_cases hls : a_lends m = 0
  · obtain ⟨a_keeps', a_come', hOK, hfr, hX⟩ := key 1 (Or.inl ⟨rfl, hls⟩)
    exact ⟨a_keeps', a_come', hOK, hfr, fun post hp => nm_r (tl_16a m) ⟨17, xk_5 hC hm (br_t hls (hX post hp)) 16 0 a_keeps a_come (by omega) (fun q => by rw [Nat.add_zero]; rfl) (fun q => by rw [Nat.add_zero]; rfl)⟩⟩
  · obtain ⟨a_keeps', a_come', hOK, hfr, hX⟩ := key 0 (Or.inr ⟨rfl, hls⟩)
    exact ⟨a_keeps', a_come', hOK, hfr, fun post hp => nm_r (tl_16a m) ⟨17, xk_5 hC hm (br_f hls (hX post hp)) 16 0 a_keeps a_come (by omega) (fun q => by rw [Nat.add_zero]; rfl) (fun q => by rw [Nat.add_zero]; rfl)⟩⟩
end
end
section
section
variable {f_known f_depth f_brief f_outCount f_endCount f_ups f_downs f_steps f_made f_alive f_gift f_ended f_stopped : Int32} {a_length a_lends a_ops a_firsts a_seconds a_thirds a_need a_loan a_hands a_keeps a_come a_numbers a_ints a_counts a_fields a_ending a_stage a_fMethod a_fLine a_held a_lent a_outs a_ends : Nat → Int32}
variable {g_known g_made g_living g_counted g_less g_depth g_begun g_given g_outcome g_isShort g_ran g_put g_ended : Int32} {b_ops b_as b_bs b_cs b_size b_lent b_need b_plans b_keep b_value b_fields b_alive b_method b_pc b_variable b_loan b_outs b_ends b_todo b_phase : Nat → Int32}
variable {m i l k : Nat}
def ky_A (a_length a_lends a_ops a_firsts a_seconds a_thirds a_need a_loan a_hands : Nat → Int32) (m : Nat) (b_keep : Nat → Int32) : Prop :=
  (∀ j, j < rn_len a_length m → b_keep (16 * m + j) = -1 ∨ mkL 6 (b_keep (16 * m + j))) ∧
  (∀ K, kc_C a_length a_lends a_ops a_firsts a_seconds a_thirds a_need a_loan a_hands m K → ∀ j, j < rn_len a_length m → b_keep (16 * m + j) ≠ -1 → K j 6 ∧ ∀ v, bt (b_keep (16 * m + j)) v = true → K j v) ∧
  (0 < rn_len a_length m → b_keep (16 * m) ≠ -1 ∧ (a_lends m = 0 → bt (a_need (16 * m)) 0 = true → bt (b_keep (16 * m)) 0 = true))
def ky_CL (a_length a_lends a_ops a_firsts a_seconds a_thirds a_need a_loan a_hands : Nat → Int32) (m : Nat) (b_keep : Nat → Int32) (i j : Nat) : Prop :=
  b_keep (16 * m + i) ≠ -1 → rn_sc a_ops a_thirds m i j → j < rn_len a_length m → b_keep (16 * m + j) ≠ -1 ∧ ∀ v, v < 6 → kp_B a_ops a_firsts a_seconds a_loan a_hands (16 * m + i) (fun v => bt (b_keep (16 * m + i)) v = true) v → bt (a_need (16 * m + j)) v = true → bt (b_keep (16 * m + j)) v = true
def ky_ms (m : Nat) (b_keep : Nat → Int32) : Nat := sm (fun j => 65 - (b_keep (16 * m + j) + 1).toNatClampNeg) 16
theorem ky_m1 {x : Int32} (h : mkL 6 x) : x ≠ -1 ∧ ¬ x < 0 ∧ 0 ≤ x ∧ (x + 1).toNatClampNeg = x.toBitVec.toNat + 1 := by
  obtain ⟨n, hn, e⟩ := mk_of h
  subst e
  refine ⟨tl_nem1 (by omega), nI_pos (by omega), nI_pos' (by omega), ?_⟩
  rw [nI_1, nI_clamp (by omega), pk_tn (by omega)]
/-- Y: a line's ways -/
theorem ys_24 {r : Int32} (hC : cd_C a_length a_ops a_firsts a_seconds a_thirds b_as b_bs) (hm : m < 4) (hi : i < rn_len a_length m) (hN : ∀ j, j < rn_len a_length m → b_need (16 * m + j) = a_need (16 * m + j)) (hn6 : ∀ j, j < rn_len a_length m → mkL 6 (a_need (16 * m + j))) (hpl : ∀ j, j < rn_len a_length m → (b_plans (16 * m + j) = 1 ↔ a_loan (16 * m + j) ≠ 0) ∧ (b_plans (16 * m + j) = 2 ↔ a_hands (16 * m + j) ≠ 0) ∧ (a_loan (16 * m + j) ≠ 0 → a_ops (16 * m + j) = 3) ∧ (a_hands (16 * m + j) ≠ 0 → ∃ b, b < 6 ∧ a_seconds (16 * m + j) = nI b ∧ b_bs (16 * m + j) = nI b)) (hr : ∀ k, bt r k = true ↔ rn_sc a_ops a_thirds m i k ∧ k < rn_len a_length m) : ∀ (d j : Nat) (x5 : Int32) (b_keep : Nat → Int32), j + d = rn_len a_length m → ky_A a_length a_lends a_ops a_firsts a_seconds a_thirds a_need a_loan a_hands m b_keep → (x5 = 0 ∨ x5 = 1) →
    ∃ (x5' : Int32) (b_keep' : Nat → Int32), (x5' = 0 ∨ x5' = 1) ∧ ky_A a_length a_lends a_ops a_firsts a_seconds a_thirds a_need a_loan a_hands m b_keep' ∧ ky_ms m b_keep' ≤ ky_ms m b_keep ∧ (x5' = 0 → x5 = 0 ∧ b_keep' = b_keep ∧ ∀ j', j ≤ j' → ky_CL a_length a_lends a_ops a_firsts a_seconds a_thirds a_need a_loan a_hands m b_keep i j') ∧ (x5 = 0 → x5' ≠ 0 → ky_ms m b_keep' < ky_ms m b_keep) ∧ (∀ q, (q < 16 * m ∨ 16 * m + 16 ≤ q) → b_keep' q = b_keep q) ∧
      ∀ post : Int32 → SY → Prop, post x5' (g_known, g_made, g_living, g_counted, g_less, g_depth, g_begun, g_given, g_outcome, g_isShort, g_ran, g_put, g_ended, a_ops, b_as, b_bs, a_thirds, a_length, a_lends, b_need, b_plans, b_keep', b_value, b_fields, b_alive, b_method, b_pc, b_variable, b_loan, b_outs, b_ends, b_todo, b_phase) → wY_spread_24 post (nI m) (nI (16 * m + i)) r g_known g_made g_living g_counted g_less g_depth g_begun g_given g_outcome g_isShort g_ran g_put g_ended (d + 1) x5 (nI (16 * m + j)) a_ops b_as b_bs a_thirds a_length a_lends b_need b_plans b_keep b_value b_fields b_alive b_method b_pc b_variable b_loan b_outs b_ends b_todo b_phase := by
  have hl := cd_len hC hm
  have cm : (nI m).toNatClampNeg = m := nI_clamp (by omega)
  have vm : vp_in (nI m) 4 := vp_in_nI (by omega) (by omega)
  have ci : (nI (16 * m + i)).toNatClampNeg = 16 * m + i := nI_clamp (by omega)
  have vi : vp_in (nI (16 * m + i)) 64 := vp_in_nI (by omega) (by omega)
  intro d
  induction d with
  | zero =>
    intro j x5 b_keep hj hA hx
    refine ⟨x5, b_keep, hx, hA, Nat.le_refl _, fun z => ⟨z, rfl, fun j' hj' _ _ h => by omega⟩, fun z1 z2 => absurd z1 z2, fun _ _ => rfl, fun post hp => ?_⟩
    rw [wY_spread_24]
    refine ⟨vm, br_t ?_ ⟨(rn_b01 hx).1, hp⟩⟩
    rw [cm, hl.2, tl_16]
    exact nI_le (by omega) (by omega)
  | succ d ih =>
    intro j x5 b_keep hj hA hx
    have hjl : j < rn_len a_length m := by omega
    have hge : ¬ 16 * nI m + a_length (nI m).toNatClampNeg ≤ nI (16 * m + j) := by
      rw [cm, hl.2, tl_16]
      exact nI_ge (by omega) (by omega)
    have cj : (nI (16 * m + j)).toNatClampNeg = 16 * m + j := nI_clamp (by omega)
    have vj : vp_in (nI (16 * m + j)) 64 := vp_in_nI (by omega) (by omega)
    have esub : nI (16 * m + j) - 16 * nI m = nI j := by
      rw [tl_16a, pk_sub (by omega)]
      exact congrArg nI (by omega)
    by_cases hki : b_keep (16 * m + i) = -1
    · obtain ⟨x5', b_keep', g1, g2, g3, g4, g5, g6, g7⟩ := ih (j + 1) x5 b_keep (by omega) hA hx
      refine ⟨x5', b_keep', g1, g2, g3, fun z => ⟨(g4 z).1, (g4 z).2.1, fun j' hj' q => absurd hki q⟩, g5, g6, fun post hp => ?_⟩
      rw [wY_spread_24]
      refine ⟨vm, br_f hge ⟨vi, br_t ?_ (nm_r (nI_1 _) (g7 post hp))⟩⟩
      rw [ci, hki]
      exact tl_m1lt
    · have hi6 : mkL 6 (b_keep (16 * m + i)) := (hA.1 i hi).resolve_left hki
      have hi0 := (ky_m1 hi6).2.1
      by_cases hb : bt r j = true
      · have hs := ((hr j).mp hb).1
        obtain ⟨p1, p2, p3, p4⟩ := hpl i hi
        obtain ⟨rk, k1, k2, k3⟩ := ya_kept (g_known := g_known) (g_made := g_made) (g_living := g_living) (g_counted := g_counted) (g_less := g_less) (g_depth := g_depth) (g_begun := g_begun) (g_given := g_given) (g_outcome := g_outcome) (g_isShort := g_isShort) (g_ran := g_ran) (g_put := g_put) (g_ended := g_ended) (b_need := b_need) (b_value := b_value) (b_fields := b_fields) (b_alive := b_alive) (b_method := b_method) (b_pc := b_pc) (b_variable := b_variable) (b_loan := b_loan) (b_outs := b_outs) (b_ends := b_ends) (b_todo := b_todo) (b_phase := b_phase) (b_keep := b_keep) (k := 16 * m + i) hC (by omega) hi6 p1 p3 p2 p4
        obtain ⟨z0, hz0, hz6⟩ : ∃ z0 : Int32, ((b_keep (16 * m + j) = -1 ∧ z0 = 0) ∨ (mkL 6 (b_keep (16 * m + j)) ∧ z0 = b_keep (16 * m + j))) ∧ mkL 6 z0 := by
          rcases hA.1 j hjl with q | q
          · exact ⟨0, Or.inl ⟨q, rfl⟩, mk_0 6⟩
          · exact ⟨_, Or.inr ⟨q, rfl⟩, q⟩
        have hall6 : mkL 6 (z0 ||| (rk &&& a_need (16 * m + j))) := mk_or hz6 (mk_and' (hn6 j hjl))
        have hallb : ∀ v, bt (z0 ||| (rk &&& a_need (16 * m + j))) v = true ↔ bt z0 v = true ∨ (bt rk v = true ∧ bt (a_need (16 * m + j)) v = true) := fun v => by
          rw [b_or, b_and, Bool.or_eq_true, Bool.and_eq_true]
        -- Y's walk to the comparison
        have KY : ∀ (n : Nat) (post : Int32 → SY → Prop), ((z0 ||| (rk &&& a_need (16 * m + j)) = b_keep (16 * m + j) → wY_spread_24 post (nI m) (nI (16 * m + i)) r g_known g_made g_living g_counted g_less g_depth g_begun g_given g_outcome g_isShort g_ran g_put g_ended n x5 (nI (16 * m + (j + 1))) a_ops b_as b_bs a_thirds a_length a_lends b_need b_plans b_keep b_value b_fields b_alive b_method b_pc b_variable b_loan b_outs b_ends b_todo b_phase) ∧ (¬ z0 ||| (rk &&& a_need (16 * m + j)) = b_keep (16 * m + j) → wY_spread_24 post (nI m) (nI (16 * m + i)) r g_known g_made g_living g_counted g_less g_depth g_begun g_given g_outcome g_isShort g_ran g_put g_ended n 1 (nI (16 * m + (j + 1))) a_ops b_as b_bs a_thirds a_length a_lends b_need b_plans (upd b_keep (16 * m + j) (z0 ||| (rk &&& a_need (16 * m + j)))) b_value b_fields b_alive b_method b_pc b_variable b_loan b_outs b_ends b_todo b_phase)) → wY_spread_24 post (nI m) (nI (16 * m + i)) r g_known g_made g_living g_counted g_less g_depth g_begun g_given g_outcome g_isShort g_ran g_put g_ended (n + 1) x5 (nI (16 * m + j)) a_ops b_as b_bs a_thirds a_length a_lends b_need b_plans b_keep b_value b_fields b_alive b_method b_pc b_variable b_loan b_outs b_ends b_todo b_phase := by
          intro n post h
          have K88 : wY_spread_88 post (wY_spread_24 post (nI m) (nI (16 * m + i)) r g_known g_made g_living g_counted g_less g_depth g_begun g_given g_outcome g_isShort g_ran g_put g_ended n) (nI m) (nI (16 * m + i)) r x5 (nI (16 * m + j)) z0 g_known g_made g_living g_counted g_less g_depth g_begun g_given g_outcome g_isShort g_ran g_put g_ended a_ops b_as b_bs a_thirds a_length a_lends b_need b_plans b_keep b_value b_fields b_alive b_method b_pc b_variable b_loan b_outs b_ends b_todo b_phase := by
            unfold wY_spread_88
            refine k3 _ ⟨vj, ?_⟩
            rw [cj, hN j hjl]
            refine nm_e ⟨vj, ⟨fun z => nm_r (nI_1 _) (h.1 z), fun z => ⟨vj, nm_e (nm_r (nI_1 _) (h.2 z))⟩⟩⟩
          rw [wY_spread_24]
          refine ⟨vm, br_f hge ⟨vi, br_f ?_ ?_⟩⟩
          · rw [ci]; exact hi0
          · rw [esub]
            refine br_f (fun z => by rw [bt_has0 _ (by omega), hb] at z; exact absurd z (by decide)) ⟨vj, ?_⟩
            rw [cj]
            rcases hz0 with ⟨q1, q2⟩ | ⟨q1, q2⟩
            · rw [q2] at K88
              exact br_f (by rw [q1]; exact tl_m1le) K88
            · rw [q2] at K88
              exact br_t (ky_m1 q1).2.2.1 ⟨vj, K88⟩
        by_cases hall : z0 ||| (rk &&& a_need (16 * m + j)) = b_keep (16 * m + j)
        · obtain ⟨x5', b_keep', g1, g2, g3, g4, g5, g6, g7⟩ := ih (j + 1) x5 b_keep (by omega) hA hx
          refine ⟨x5', b_keep', g1, g2, g3, fun z => ⟨(g4 z).1, (g4 z).2.1, fun j' hj' => ?_⟩, g5, g6, fun post hp => KY _ post ⟨fun _ => g7 post hp, fun z => absurd hall z⟩⟩
          by_cases zj : j' = j
          · subst zj
            intro _ _ _
            refine ⟨by rw [← hall]; exact (ky_m1 hall6).1, fun v hv hB hn => ?_⟩
            rw [← hall, hallb]
            exact Or.inr ⟨(k2 v hv).mpr hB, hn⟩
          · exact (g4 z).2.2 j' (by omega)
        · obtain ⟨kp1, ekp⟩ : ∃ f, f = upd b_keep (16 * m + j) (z0 ||| (rk &&& a_need (16 * m + j))) := ⟨_, rfl⟩
          rw [← ekp] at KY
          have hkj : kp1 (16 * m + j) = z0 ||| (rk &&& a_need (16 * m + j)) := by rw [ekp, tl_us]
          have hko : ∀ q, q ≠ 16 * m + j → kp1 q = b_keep q := fun q hq => by rw [ekp, tl_un hq]
          have hA1 : ky_A a_length a_lends a_ops a_firsts a_seconds a_thirds a_need a_loan a_hands m kp1 := by
            refine ⟨fun j' hj' => ?_, fun K hK j' hj' hne => ?_, fun h0 => ?_⟩
            · by_cases z : j' = j
              · rw [z, hkj]; exact Or.inr hall6
              · rw [hko _ (by omega)]; exact hA.1 j' hj'
            · by_cases z : j' = j
              · subst z
                obtain ⟨s1, s2⟩ := hA.2.1 K hK i hi hki
                obtain ⟨c1, c2⟩ := hK.2 i hi s1 j' hs hj'
                refine ⟨c1, fun v hv => ?_⟩
                rw [hkj, hallb] at hv
                rcases hv with hv | ⟨hv1, hv2⟩
                · rcases hz0 with ⟨q1, q2⟩ | ⟨q1, q2⟩
                  · rw [q2, b_0] at hv; exact absurd hv (by decide)
                  · rw [q2] at hv
                    exact (hA.2.1 K hK j' hj' (ky_m1 q1).1).2 v hv
                · have hv6 := bt_lt k1 hv1
                  exact c2 v hv6 (kp_mono (fun g => s2 v g) ((k2 v hv6).mp hv1)) hv2
              · rw [hko _ (by omega)] at hne ⊢
                exact hA.2.1 K hK j' hj' hne
            · obtain ⟨s1, s2⟩ := hA.2.2 h0
              by_cases z : j = 0
              · subst z
                have e0 : kp1 (16 * m) = z0 ||| (rk &&& a_need (16 * m + 0)) := hkj
                rw [e0]
                refine ⟨(ky_m1 hall6).1, fun q1 q2 => ?_⟩
                rw [hallb]
                rcases hz0 with ⟨w1, w2⟩ | ⟨w1, w2⟩
                · exact absurd w1 s1
                · rw [w2]
                  exact Or.inl (s2 q1 q2)
              · rw [hko _ (by omega)]
                exact ⟨s1, s2⟩
          have hms : ky_ms m kp1 < ky_ms m b_keep := by
            have hsum := sm_up (f := fun j => 65 - (b_keep (16 * m + j) + 1).toNatClampNeg) (g := fun j => 65 - (kp1 (16 * m + j) + 1).toNatClampNeg) (k := j) (n := 16) (by omega) (fun q _ hq => by rw [hko _ (by omega)])
            rw [hkj, (ky_m1 hall6).2.2.2] at hsum
            have h64 := mk_64 hall6
            have hlt : (b_keep (16 * m + j) + 1).toNatClampNeg < (z0 ||| (rk &&& a_need (16 * m + j))).toBitVec.toNat + 1 := by
              rcases hz0 with ⟨q1, q2⟩ | ⟨q1, q2⟩
              · rw [q1]
                have : ((-1 : Int32) + 1).toNatClampNeg = 0 := by decide
                omega
              · rw [(ky_m1 q1).2.2.2]
                have := mk_lt (x := b_keep (16 * m + j)) (y := z0 ||| (rk &&& a_need (16 * m + j))) (fun v hv => (hallb v).mpr (Or.inl (by rw [q2]; exact hv))) hall
                omega
            unfold ky_ms
            omega
          obtain ⟨x5', b_keep', g1, g2, g3, g4, g5, g6, g7⟩ := ih (j + 1) 1 kp1 (by omega) hA1 (Or.inr rfl)
          refine ⟨x5', b_keep', g1, g2, by omega, fun z => absurd (g4 z).1 tl_n1', fun _ _ => by omega, fun q hq => by rw [g6 q hq, hko q (by omega)], fun post hp => KY _ post ⟨fun z => absurd z hall, fun _ => g7 post hp⟩⟩
      · obtain ⟨x5', b_keep', g1, g2, g3, g4, g5, g6, g7⟩ := ih (j + 1) x5 b_keep (by omega) hA hx
        have hbf : bt r j = false := by
          cases q : bt r j
          · rfl
          · exact absurd q hb
        refine ⟨x5', b_keep', g1, g2, g3, fun z => ⟨(g4 z).1, (g4 z).2.1, fun j' hj' => ?_⟩, g5, g6, fun post hp => ?_⟩
        · by_cases zj : j' = j
          · intro _ hs hk
            rw [zj] at hs hk
            exact absurd ((hr j).mpr ⟨hs, hk⟩) hb
          · exact (g4 z).2.2 j' (by omega)
        · rw [wY_spread_24]
          refine ⟨vm, br_f hge ⟨vi, br_f ?_ ?_⟩⟩
          · rw [ci]; exact hi0
          · rw [esub]
            exact br_t ((bt_has0 _ (by omega)).mpr hbf) (nm_r (nI_1 _) (g7 post hp))
theorem ys_sp (hC : cd_C a_length a_ops a_firsts a_seconds a_thirds b_as b_bs) (hm : m < 4) (hi : i < rn_len a_length m) (hN : ∀ j, j < rn_len a_length m → b_need (16 * m + j) = a_need (16 * m + j)) (hn6 : ∀ j, j < rn_len a_length m → mkL 6 (a_need (16 * m + j))) (hpl : ∀ j, j < rn_len a_length m → (b_plans (16 * m + j) = 1 ↔ a_loan (16 * m + j) ≠ 0) ∧ (b_plans (16 * m + j) = 2 ↔ a_hands (16 * m + j) ≠ 0) ∧ (a_loan (16 * m + j) ≠ 0 → a_ops (16 * m + j) = 3) ∧ (a_hands (16 * m + j) ≠ 0 → ∃ b, b < 6 ∧ a_seconds (16 * m + j) = nI b ∧ b_bs (16 * m + j) = nI b)) (hA : ky_A a_length a_lends a_ops a_firsts a_seconds a_thirds a_need a_loan a_hands m b_keep) : ∃ (x5' : Int32) (b_keep' : Nat → Int32), (x5' = 0 ∨ x5' = 1) ∧ ky_A a_length a_lends a_ops a_firsts a_seconds a_thirds a_need a_loan a_hands m b_keep' ∧ ky_ms m b_keep' ≤ ky_ms m b_keep ∧ (x5' = 0 → b_keep' = b_keep ∧ ∀ j', ky_CL a_length a_lends a_ops a_firsts a_seconds a_thirds a_need a_loan a_hands m b_keep i j') ∧ (x5' ≠ 0 → ky_ms m b_keep' < ky_ms m b_keep) ∧ (∀ q, (q < 16 * m ∨ 16 * m + 16 ≤ q) → b_keep' q = b_keep q) ∧
      ∀ post : Int32 → SY → Prop, post x5' (g_known, g_made, g_living, g_counted, g_less, g_depth, g_begun, g_given, g_outcome, g_isShort, g_ran, g_put, g_ended, a_ops, b_as, b_bs, a_thirds, a_length, a_lends, b_need, b_plans, b_keep', b_value, b_fields, b_alive, b_method, b_pc, b_variable, b_loan, b_outs, b_ends, b_todo, b_phase) → wpY_spread post (g_known, g_made, g_living, g_counted, g_less, g_depth, g_begun, g_given, g_outcome, g_isShort, g_ran, g_put, g_ended, a_ops, b_as, b_bs, a_thirds, a_length, a_lends, b_need, b_plans, b_keep, b_value, b_fields, b_alive, b_method, b_pc, b_variable, b_loan, b_outs, b_ends, b_todo, b_phase) (nI m) (nI i) := by
  have hl := cd_len hC hm
  obtain ⟨ra, e1, e2⟩ := ya_after (g_known := g_known) (g_made := g_made) (g_living := g_living) (g_counted := g_counted) (g_less := g_less) (g_depth := g_depth) (g_begun := g_begun) (g_given := g_given) (g_outcome := g_outcome) (g_isShort := g_isShort) (g_ran := g_ran) (g_put := g_put) (g_ended := g_ended) (b_lent := a_lends) (b_need := b_need) (b_plans := b_plans) (b_keep := b_keep) (b_value := b_value) (b_fields := b_fields) (b_alive := b_alive) (b_method := b_method) (b_pc := b_pc) (b_variable := b_variable) (b_loan := b_loan) (b_outs := b_outs) (b_ends := b_ends) (b_todo := b_todo) (b_phase := b_phase) (i := i) hC hm (show i < 16 by omega)
  obtain ⟨x5', b_keep', g1, g2, g3, g4, g5, g6, g7⟩ := ys_24 (g_known := g_known) (g_made := g_made) (g_living := g_living) (g_counted := g_counted) (g_less := g_less) (g_depth := g_depth) (g_begun := g_begun) (g_given := g_given) (g_outcome := g_outcome) (g_isShort := g_isShort) (g_ran := g_ran) (g_put := g_put) (g_ended := g_ended) (b_value := b_value) (b_fields := b_fields) (b_alive := b_alive) (b_method := b_method) (b_pc := b_pc) (b_variable := b_variable) (b_loan := b_loan) (b_outs := b_outs) (b_ends := b_ends) (b_todo := b_todo) (b_phase := b_phase) hC hm hi hN hn6 hpl e1 (rn_len a_length m) 0 0 b_keep (by omega) hA (Or.inl rfl)
  refine ⟨x5', b_keep', g1, g2, g3, fun z => ⟨(g4 z).2.1, fun j' => (g4 z).2.2 j' (by omega)⟩, g5 rfl, g6, fun post hp => nm_r (tl_16 m i) ?_⟩
  exact e2 _ (nm_r (tl_16a m) ⟨_, g7 post hp⟩)
theorem yk_222 (hC : cd_C a_length a_ops a_firsts a_seconds a_thirds b_as b_bs) (hm : m < 4) (hN : ∀ j, j < rn_len a_length m → b_need (16 * m + j) = a_need (16 * m + j)) (hn6 : ∀ j, j < rn_len a_length m → mkL 6 (a_need (16 * m + j))) (hpl : ∀ j, j < rn_len a_length m → (b_plans (16 * m + j) = 1 ↔ a_loan (16 * m + j) ≠ 0) ∧ (b_plans (16 * m + j) = 2 ↔ a_hands (16 * m + j) ≠ 0) ∧ (a_loan (16 * m + j) ≠ 0 → a_ops (16 * m + j) = 3) ∧ (a_hands (16 * m + j) ≠ 0 → ∃ b, b < 6 ∧ a_seconds (16 * m + j) = nI b ∧ b_bs (16 * m + j) = nI b)) : ∀ (d i : Nat) (x2 : Int32) (b_keep : Nat → Int32), i + d = rn_len a_length m → ky_A a_length a_lends a_ops a_firsts a_seconds a_thirds a_need a_loan a_hands m b_keep → (x2 = 0 ∨ x2 = 1) →
    ∃ (x2' : Int32) (b_keep' : Nat → Int32), (x2' = 0 ∨ x2' = 1) ∧ ky_A a_length a_lends a_ops a_firsts a_seconds a_thirds a_need a_loan a_hands m b_keep' ∧ ky_ms m b_keep' ≤ ky_ms m b_keep ∧ (x2' = 0 → x2 = 0 ∧ b_keep' = b_keep ∧ ∀ i', i ≤ i' → i' < rn_len a_length m → ∀ j', ky_CL a_length a_lends a_ops a_firsts a_seconds a_thirds a_need a_loan a_hands m b_keep i' j') ∧ (x2 = 0 → x2' ≠ 0 → ky_ms m b_keep' < ky_ms m b_keep) ∧ (∀ q, (q < 16 * m ∨ 16 * m + 16 ≤ q) → b_keep' q = b_keep q) ∧
      ∀ (post : SY → Prop) (J15 J214 : Int32 → Int32 → Int32 → Int32 → Int32 → Int32 → Int32 → Int32 → Int32 → Int32 → Int32 → Int32 → Int32 → Int32 → (Nat → Int32) → (Nat → Int32) → (Nat → Int32) → (Nat → Int32) → (Nat → Int32) → (Nat → Int32) → (Nat → Int32) → (Nat → Int32) → (Nat → Int32) → (Nat → Int32) → (Nat → Int32) → (Nat → Int32) → (Nat → Int32) → (Nat → Int32) → (Nat → Int32) → (Nat → Int32) → (Nat → Int32) → (Nat → Int32) → (Nat → Int32) → (Nat → Int32) → Prop), J214 x2' g_known g_made g_living g_counted g_less g_depth g_begun g_given g_outcome g_isShort g_ran g_put g_ended a_ops b_as b_bs a_thirds a_length a_lends b_need b_plans b_keep' b_value b_fields b_alive b_method b_pc b_variable b_loan b_outs b_ends b_todo b_phase → wY_look_222 post J15 J214 (nI m) (d + 1) x2 (nI i) g_known g_made g_living g_counted g_less g_depth g_begun g_given g_outcome g_isShort g_ran g_put g_ended a_ops b_as b_bs a_thirds a_length a_lends b_need b_plans b_keep b_value b_fields b_alive b_method b_pc b_variable b_loan b_outs b_ends b_todo b_phase := by
  have hl := cd_len hC hm
  have cm : (nI m).toNatClampNeg = m := nI_clamp (by omega)
  have vm : vp_in (nI m) 4 := vp_in_nI (by omega) (by omega)
  intro d
  induction d with
  | zero =>
    intro i x2 b_keep hi hA hx
    refine ⟨x2, b_keep, hx, hA, Nat.le_refl _, fun z => ⟨z, rfl, fun i' h1 h2 => by omega⟩, fun z1 z2 => absurd z1 z2, fun _ _ => rfl, fun post J15 J214 h => ?_⟩
    rw [wY_look_222]
    refine ⟨vm, br_t ?_ h⟩
    rw [cm, hl.2]
    exact nI_le (by omega) (by omega)
  | succ d ih =>
    intro i x2 b_keep hi hA hx
    obtain ⟨r, kp1, s1, s2, s3, s4, s5, s6, s7⟩ := ys_sp (g_known := g_known) (g_made := g_made) (g_living := g_living) (g_counted := g_counted) (g_less := g_less) (g_depth := g_depth) (g_begun := g_begun) (g_given := g_given) (g_outcome := g_outcome) (g_isShort := g_isShort) (g_ran := g_ran) (g_put := g_put) (g_ended := g_ended) (b_value := b_value) (b_fields := b_fields) (b_alive := b_alive) (b_method := b_method) (b_pc := b_pc) (b_variable := b_variable) (b_loan := b_loan) (b_outs := b_outs) (b_ends := b_ends) (b_todo := b_todo) (b_phase := b_phase) (b_keep := b_keep) hC hm (show i < rn_len a_length m by omega) hN hn6 hpl hA
    have hor : x2 ||| r = 0 ∨ x2 ||| r = 1 := by
      rcases hx with rfl | rfl <;> rcases s1 with rfl | rfl <;> decide
    obtain ⟨x2', b_keep', g1, g2, g3, g4, g5, g6, g7⟩ := ih (i + 1) (x2 ||| r) kp1 (by omega) s2 hor
    refine ⟨x2', b_keep', g1, g2, by omega, fun z => ?_, fun z1 z2 => ?_, fun q hq => by rw [g6 q hq, s6 q hq], fun post J15 J214 h => ?_⟩
    · obtain ⟨q1, q2, q3⟩ := g4 z
      have hx0 : x2 = 0 ∧ r = 0 := by
        rcases hx with rfl | rfl <;> rcases s1 with rfl | rfl
        · exact ⟨rfl, rfl⟩
        · exact absurd q1 (by decide)
        · exact absurd q1 (by decide)
        · exact absurd q1 (by decide)
      obtain ⟨w1, w2⟩ := s4 hx0.2
      refine ⟨hx0.1, by rw [q2, w1], fun i' h1 h2 => ?_⟩
      by_cases zi : i' = i
      · rw [zi]; exact w2
      · rw [← w1]; exact q3 i' (by omega) h2
    · by_cases zr : r = 0
      · have := g5 (by rw [z1, zr]; decide) z2
        omega
      · have := s5 zr
        omega
    · rw [wY_look_222]
      refine ⟨vm, br_f ?_ (s7 _ (nm_e (nm_r (nI_1 i) (g7 post J15 J214 h))))⟩
      rw [cm, hl.2]
      exact nI_ge (by omega) (by omega)
theorem yk_214 (hC : cd_C a_length a_ops a_firsts a_seconds a_thirds b_as b_bs) (hm : m < 4) (hN : ∀ j, j < rn_len a_length m → b_need (16 * m + j) = a_need (16 * m + j)) (hn6 : ∀ j, j < rn_len a_length m → mkL 6 (a_need (16 * m + j))) (hpl : ∀ j, j < rn_len a_length m → (b_plans (16 * m + j) = 1 ↔ a_loan (16 * m + j) ≠ 0) ∧ (b_plans (16 * m + j) = 2 ↔ a_hands (16 * m + j) ≠ 0) ∧ (a_loan (16 * m + j) ≠ 0 → a_ops (16 * m + j) = 3) ∧ (a_hands (16 * m + j) ≠ 0 → ∃ b, b < 6 ∧ a_seconds (16 * m + j) = nI b ∧ b_bs (16 * m + j) = nI b)) : ∀ (μ : Nat) (b_keep : Nat → Int32), ky_A a_length a_lends a_ops a_firsts a_seconds a_thirds a_need a_loan a_hands m b_keep → ky_ms m b_keep ≤ μ →
    ∃ b_keep' : Nat → Int32, ky_A a_length a_lends a_ops a_firsts a_seconds a_thirds a_need a_loan a_hands m b_keep' ∧ (∀ i', i' < rn_len a_length m → ∀ j', ky_CL a_length a_lends a_ops a_firsts a_seconds a_thirds a_need a_loan a_hands m b_keep' i' j') ∧ (∀ q, (q < 16 * m ∨ 16 * m + 16 ≤ q) → b_keep' q = b_keep q) ∧ ∀ (post : SY → Prop) (J15 : Int32 → Int32 → Int32 → Int32 → Int32 → Int32 → Int32 → Int32 → Int32 → Int32 → Int32 → Int32 → Int32 → Int32 → (Nat → Int32) → (Nat → Int32) → (Nat → Int32) → (Nat → Int32) → (Nat → Int32) → (Nat → Int32) → (Nat → Int32) → (Nat → Int32) → (Nat → Int32) → (Nat → Int32) → (Nat → Int32) → (Nat → Int32) → (Nat → Int32) → (Nat → Int32) → (Nat → Int32) → (Nat → Int32) → (Nat → Int32) → (Nat → Int32) → (Nat → Int32) → (Nat → Int32) → Prop) n, μ + 1 < n → J15 (nI (m + 1)) g_known g_made g_living g_counted g_less g_depth g_begun g_given g_outcome g_isShort g_ran g_put g_ended a_ops b_as b_bs a_thirds a_length a_lends b_need b_plans b_keep' b_value b_fields b_alive b_method b_pc b_variable b_loan b_outs b_ends b_todo b_phase → wY_look_214 post J15 (nI m) n 1 g_known g_made g_living g_counted g_less g_depth g_begun g_given g_outcome g_isShort g_ran g_put g_ended a_ops b_as b_bs a_thirds a_length a_lends b_need b_plans b_keep b_value b_fields b_alive b_method b_pc b_variable b_loan b_outs b_ends b_todo b_phase := by
  intro μ
  induction μ with
  | zero =>
    intro b_keep hA hms
    obtain ⟨x2', kp1, g1, g2, g3, g4, g5, g6, g7⟩ := yk_222 (g_known := g_known) (g_made := g_made) (g_living := g_living) (g_counted := g_counted) (g_less := g_less) (g_depth := g_depth) (g_begun := g_begun) (g_given := g_given) (g_outcome := g_outcome) (g_isShort := g_isShort) (g_ran := g_ran) (g_put := g_put) (g_ended := g_ended) (b_value := b_value) (b_fields := b_fields) (b_alive := b_alive) (b_method := b_method) (b_pc := b_pc) (b_variable := b_variable) (b_loan := b_loan) (b_outs := b_outs) (b_ends := b_ends) (b_todo := b_todo) (b_phase := b_phase) hC hm hN hn6 hpl (rn_len a_length m) 0 0 b_keep (by omega) hA (Or.inl rfl)
    have hx : x2' = 0 := Classical.byContradiction (fun z => by
      have := g5 rfl z
      omega)
    obtain ⟨q1, q2, q3⟩ := g4 hx
    refine ⟨b_keep, hA, fun i' h j' => q3 i' (by omega) h j', fun _ _ => rfl, fun post J15 n hn hJ => ?_⟩
    obtain ⟨n', rfl⟩ : ∃ n', n = n' + 1 + 1 := ⟨n - 2, by omega⟩
    rw [wY_look_214]
    refine br_f tl_n1' ⟨_, g7 post J15 _ ?_⟩
    rw [hx, q2, wY_look_214]
    exact br_t rfl (nm_r (nI_1 m) hJ)
  | succ μ ih =>
    intro b_keep hA hms
    obtain ⟨x2', kp1, g1, g2, g3, g4, g5, g6, g7⟩ := yk_222 (g_known := g_known) (g_made := g_made) (g_living := g_living) (g_counted := g_counted) (g_less := g_less) (g_depth := g_depth) (g_begun := g_begun) (g_given := g_given) (g_outcome := g_outcome) (g_isShort := g_isShort) (g_ran := g_ran) (g_put := g_put) (g_ended := g_ended) (b_value := b_value) (b_fields := b_fields) (b_alive := b_alive) (b_method := b_method) (b_pc := b_pc) (b_variable := b_variable) (b_loan := b_loan) (b_outs := b_outs) (b_ends := b_ends) (b_todo := b_todo) (b_phase := b_phase) hC hm hN hn6 hpl (rn_len a_length m) 0 0 b_keep (by omega) hA (Or.inl rfl)
    by_cases hx : x2' = 0
    · obtain ⟨q1, q2, q3⟩ := g4 hx
      refine ⟨b_keep, hA, fun i' h j' => q3 i' (by omega) h j', fun _ _ => rfl, fun post J15 n hn hJ => ?_⟩
      obtain ⟨n', rfl⟩ : ∃ n', n = n' + 1 + 1 := ⟨n - 2, by omega⟩
      rw [wY_look_214]
      refine br_f tl_n1' ⟨_, g7 post J15 _ ?_⟩
      rw [hx, q2, wY_look_214]
      exact br_t rfl (nm_r (nI_1 m) hJ)
    · have hlt := g5 rfl hx
      have hx1 : x2' = 1 := g1.resolve_left hx
      obtain ⟨b_keep', h1, h2, h3, h4⟩ := ih kp1 g2 (by omega)
      refine ⟨b_keep', h1, h2, fun q hq => by rw [h3 q hq, g6 q hq], fun post J15 n hn hJ => ?_⟩
      obtain ⟨n', rfl⟩ : ∃ n', n = n' + 1 := ⟨n - 1, by omega⟩
      rw [wY_look_214]
      refine br_f tl_n1' ⟨_, g7 post J15 _ ?_⟩
      rw [hx1]
      exact h4 post J15 n' (by omega) hJ
/-- both have found the same -/
theorem ky_eq {j : Nat} (hX : kx_OK a_length a_lends a_ops a_firsts a_seconds a_thirds a_need a_loan a_hands m a_keeps a_come) (hA : ky_A a_length a_lends a_ops a_firsts a_seconds a_thirds a_need a_loan a_hands m b_keep) (hC : ∀ i', i' < rn_len a_length m → ∀ j', ky_CL a_length a_lends a_ops a_firsts a_seconds a_thirds a_need a_loan a_hands m b_keep i' j') (hj : j < rn_len a_length m) : (a_come (16 * m + j) = 0 → b_keep (16 * m + j) = -1) ∧ (a_come (16 * m + j) ≠ 0 → b_keep (16 * m + j) = a_keeps (16 * m + j)) := by
  obtain ⟨x1, x2, x3, x4⟩ := hX
  have hKY : kc_C a_length a_lends a_ops a_firsts a_seconds a_thirds a_need a_loan a_hands m (fun j v => b_keep (16 * m + j) ≠ -1 ∧ (v = 6 ∨ (v < 6 ∧ bt (b_keep (16 * m + j)) v = true))) := by
    refine ⟨fun h0 => ⟨⟨(hA.2.2 h0).1, Or.inl rfl⟩, fun q1 q2 => ⟨(hA.2.2 h0).1, Or.inr ⟨by omega, (hA.2.2 h0).2 q1 q2⟩⟩⟩, fun j hj hK k hs hk => ?_⟩
    obtain ⟨t1, t2⟩ := hC j hj k hK.1 hs hk
    refine ⟨⟨t1, Or.inl rfl⟩, fun v hv hB hn => ⟨t1, Or.inr ⟨hv, t2 v hv (kp_mono (fun g => ?_) hB) hn⟩⟩⟩
    rcases g.2 with g | g
    · omega
    · exact g.2
  have c1 : a_come (16 * m + j) ≠ 0 → b_keep (16 * m + j) ≠ -1 := fun h => ((x3 _ hKY j hj).1 h).1
  have c2 : b_keep (16 * m + j) ≠ -1 → a_come (16 * m + j) ≠ 0 := fun h => by
    have := (hA.2.1 _ x4 j hj h).1
    rcases this with q | q
    · exact q.2
    · omega
  refine ⟨fun h => Classical.byContradiction (fun z => c2 z h), fun h => ?_⟩
  have hy6 : mkL 6 (b_keep (16 * m + j)) := (hA.1 j hj).resolve_left (c1 h)
  refine mk_ext hy6 (x1 j hj) (fun v hv => ?_)
  have d1 : bt (b_keep (16 * m + j)) v = true → bt (a_keeps (16 * m + j)) v = true := fun g => by
    have := (hA.2.1 _ x4 j hj (c1 h)).2 v g
    rcases this with q | q
    · omega
    · exact q.2
  have d2 : bt (a_keeps (16 * m + j)) v = true → bt (b_keep (16 * m + j)) v = true := fun g => by
    have := ((x3 _ hKY j hj).2 v g).2
    rcases this with q | q
    · omega
    · exact q.2
  cases q1 : bt (b_keep (16 * m + j)) v
  · cases q2 : bt (a_keeps (16 * m + j)) v
    · rfl
    · rw [d2 q2] at q1; exact absurd q1 (by decide)
  · rw [d1 q1]
end
end
section
section
variable {f_known f_depth f_brief f_outCount f_endCount f_ups f_downs f_steps f_made f_alive f_gift f_ended f_stopped : Int32} {a_length a_lends a_ops a_firsts a_seconds a_thirds a_need a_loan a_hands a_keeps a_come a_numbers a_ints a_counts a_fields a_ending a_stage a_fMethod a_fLine a_held a_lent a_outs a_ends : Nat → Int32}
variable {g_known g_made g_living g_counted g_less g_depth g_begun g_given g_outcome g_isShort g_ran g_put g_ended : Int32} {b_ops b_as b_bs b_cs b_size b_lent b_need b_plans b_keep b_value b_fields b_alive b_method b_pc b_variable b_loan b_outs b_ends b_todo b_phase : Nat → Int32}
variable {m i l k : Nat}
theorem nd_cg {n2 : Nat → Int32} (h : ∀ j, j < rn_len a_length m → n2 (16 * m + j) = a_need (16 * m + j)) (hO : nd_OK a_length a_ops a_firsts a_seconds a_thirds m a_need) : nd_OK a_length a_ops a_firsts a_seconds a_thirds m n2 := by
  intro j hj
  rw [h j hj]
  exact hO j hj
theorem kc_cg {K K' : Nat → Nat → Prop} (h : ∀ j, j < rn_len a_length m → ∀ v, K j v ↔ K' j v) (hK : kc_C a_length a_lends a_ops a_firsts a_seconds a_thirds a_need a_loan a_hands m K) : kc_C a_length a_lends a_ops a_firsts a_seconds a_thirds a_need a_loan a_hands m K' := by
  refine ⟨fun h0 => ⟨(h 0 h0 6).mp (hK.1 h0).1, fun q1 q2 => (h 0 h0 0).mp ((hK.1 h0).2 q1 q2)⟩, fun j hj hj6 k hs hk => ?_⟩
  obtain ⟨t1, t2⟩ := hK.2 j hj ((h j hj 6).mpr hj6) k hs hk
  exact ⟨(h k hk 6).mp t1, fun v hv hB hn => (h k hk v).mp (t2 v hv (kp_mono (fun g => (h j hj v).mpr g) hB) hn)⟩
theorem kx_cg {kp2 co2 : Nat → Int32} (h : ∀ j, j < rn_len a_length m → kp2 (16 * m + j) = a_keeps (16 * m + j) ∧ co2 (16 * m + j) = a_come (16 * m + j)) (hO : kx_OK a_length a_lends a_ops a_firsts a_seconds a_thirds a_need a_loan a_hands m a_keeps a_come) : kx_OK a_length a_lends a_ops a_firsts a_seconds a_thirds a_need a_loan a_hands m kp2 co2 := by
  obtain ⟨x1, x2, x3, x4⟩ := hO
  refine ⟨fun j hj => ?_, fun j hj => ?_, fun K hK j hj => ?_, kc_cg (fun j hj v => ?_) x4⟩
  · rw [(h j hj).1]; exact x1 j hj
  · rw [(h j hj).1, (h j hj).2]; exact x2 j hj
  · rw [(h j hj).1, (h j hj).2]; exact x3 K hK j hj
  · unfold kx_K
    rw [(h j hj).1, (h j hj).2]
/-- X: what is needed, in all methods -/
theorem px_15 (hC : cd_C a_length a_ops a_firsts a_seconds a_thirds b_as b_bs) : ∀ (d c : Nat) (a_need : Nat → Int32), c + d = 4 → (∀ m, m < c → nd_OK a_length a_ops a_firsts a_seconds a_thirds m a_need) → ∃ a_need' : Nat → Int32, (∀ m, m < 4 → nd_OK a_length a_ops a_firsts a_seconds a_thirds m a_need') ∧
    ∀ post : SX → Prop, (∃ n33, wX_prepare_33 post f_known f_depth f_brief f_outCount f_endCount f_ups f_downs f_steps f_made f_alive f_gift f_ended f_stopped n33 0 a_length a_lends a_ops a_firsts a_seconds a_thirds a_need' a_loan a_hands a_keeps a_come a_numbers a_ints a_counts a_fields a_ending a_stage a_fMethod a_fLine a_held a_lent a_outs a_ends) → wX_prepare_15 post (d + 1) (nI c) f_known f_depth f_brief f_outCount f_endCount f_ups f_downs f_steps f_made f_alive f_gift f_ended f_stopped a_length a_lends a_ops a_firsts a_seconds a_thirds a_need a_loan a_hands a_keeps a_come a_numbers a_ints a_counts a_fields a_ending a_stage a_fMethod a_fLine a_held a_lent a_outs a_ends := by
  intro d
  induction d with
  | zero =>
    intro c a_need hc hO
    have e : c = 4 := by omega
    subst e
    refine ⟨a_need, hO, fun post h => ?_⟩
    rw [wX_prepare_15]
    exact br_t (by decide) h
  | succ d ih =>
    intro c a_need hc hO
    obtain ⟨n1, h1, h2, h3⟩ := xa_live (f_known := f_known) (f_depth := f_depth) (f_brief := f_brief) (f_outCount := f_outCount) (f_endCount := f_endCount) (f_ups := f_ups) (f_downs := f_downs) (f_steps := f_steps) (f_made := f_made) (f_alive := f_alive) (f_gift := f_gift) (f_ended := f_ended) (f_stopped := f_stopped) (a_lends := a_lends) (a_loan := a_loan) (a_hands := a_hands) (a_keeps := a_keeps) (a_come := a_come) (a_numbers := a_numbers) (a_ints := a_ints) (a_counts := a_counts) (a_fields := a_fields) (a_ending := a_ending) (a_stage := a_stage) (a_fMethod := a_fMethod) (a_fLine := a_fLine) (a_held := a_held) (a_lent := a_lent) (a_outs := a_outs) (a_ends := a_ends) (a_need := a_need) (m := c) hC (by omega)
    obtain ⟨a_need', g1, g2⟩ := ih (c + 1) n1 (by omega) (fun m hm => by
      by_cases z : m = c
      · rw [z]; exact h1
      · have hl := (cd_len hC (show m < 4 by omega)).1
        exact nd_cg (fun j hj => h2 _ (by omega)) (hO m (by omega)))
    refine ⟨a_need', g1, fun post h => ?_⟩
    rw [wX_prepare_15]
    exact br_f (nI_ge (b := 4) (by omega) (by omega)) (h3 _ (nm_r (nI_1 c) (g2 post h)))
def px_S (a_length a_lends a_ops a_firsts a_seconds a_thirds a_need a_loan a_hands : Nat → Int32) (q : Nat) : Prop :=
  q % 16 < rn_len a_length (q / 16) → (a_loan q ≠ 0 ↔ ln_P a_length a_ops a_firsts a_seconds a_thirds a_need (q / 16) (q % 16)) ∧ (a_hands q ≠ 0 ↔ hd_P a_length a_lends a_ops a_firsts a_seconds a_thirds a_need (q / 16) (q % 16))
/-- X: one line -/
theorem px_60 {q : Nat} (hC : cd_C a_length a_ops a_firsts a_seconds a_thirds b_as b_bs) (hq : q < 64) : ∃ lo ha : Int32, (q % 16 < rn_len a_length (q / 16) → (lo ≠ 0 ↔ ln_P a_length a_ops a_firsts a_seconds a_thirds a_need (q / 16) (q % 16)) ∧ (ha ≠ 0 ↔ hd_P a_length a_lends a_ops a_firsts a_seconds a_thirds a_need (q / 16) (q % 16))) ∧
    (∀ (post : SX → Prop) (J : Int32 → (Nat → Int32) → (Nat → Int32) → (Nat → Int32) → (Nat → Int32) → (Nat → Int32) → (Nat → Int32) → (Nat → Int32) → (Nat → Int32) → (Nat → Int32) → (Nat → Int32) → (Nat → Int32) → (Nat → Int32) → (Nat → Int32) → (Nat → Int32) → (Nat → Int32) → (Nat → Int32) → (Nat → Int32) → (Nat → Int32) → (Nat → Int32) → (Nat → Int32) → (Nat → Int32) → (Nat → Int32) → (Nat → Int32) → Prop), (J (nI (q + 1)) a_length a_lends a_ops a_firsts a_seconds a_thirds a_need (upd a_loan q lo) (upd a_hands q ha) a_keeps a_come a_numbers a_ints a_counts a_fields a_ending a_stage a_fMethod a_fLine a_held a_lent a_outs a_ends) → ∀ z0 : Int32, (q % 16 < rn_len a_length (q / 16) ↔ z0 = 1) → (z0 = 0 ∨ z0 = 1) → wX_prepare_60 post J (nI q) z0 f_known f_depth f_brief f_outCount f_endCount f_ups f_downs f_steps f_made f_alive f_gift f_ended f_stopped a_length a_lends a_ops a_firsts a_seconds a_thirds a_need a_loan a_hands a_keeps a_come a_numbers a_ints a_counts a_fields a_ending a_stage a_fMethod a_fLine a_held a_lent a_outs a_ends) := by
  have cq : (nI q).toNatClampNeg = q := nI_clamp (by omega)
  have vq : vp_in (nI q) 64 := vp_in_nI hq (by omega)
  have ed : nI q / 16 = nI (q / 16) := pk_div (d := 16) (by omega) (by omega) (by omega)
  have er : nI q - nI q / 16 * 16 = nI (q % 16) := pk_rem (d := 16) (by omega) (by omega) (by omega)
  have n16 : ¬ (16 : Int32) = 0 := by decide
  by_cases hi : q % 16 < rn_len a_length (q / 16)
  · have hm : q / 16 < 4 := by omega
    -- hands, whatever the loan is
    have KH : ∃ ha : Int32, (ha ≠ 0 ↔ hd_P a_length a_lends a_ops a_firsts a_seconds a_thirds a_need (q / 16) (q % 16)) ∧ ∀ (post : SX → Prop) (J : Int32 → (Nat → Int32) → (Nat → Int32) → (Nat → Int32) → (Nat → Int32) → (Nat → Int32) → (Nat → Int32) → (Nat → Int32) → (Nat → Int32) → (Nat → Int32) → (Nat → Int32) → (Nat → Int32) → (Nat → Int32) → (Nat → Int32) → (Nat → Int32) → (Nat → Int32) → (Nat → Int32) → (Nat → Int32) → (Nat → Int32) → (Nat → Int32) → (Nat → Int32) → (Nat → Int32) → (Nat → Int32) → (Nat → Int32) → Prop) (lo : Int32), (lo = 0 ∨ lo = 1) → (J (nI (q + 1)) a_length a_lends a_ops a_firsts a_seconds a_thirds a_need (upd a_loan q lo) (upd a_hands q ha) a_keeps a_come a_numbers a_ints a_counts a_fields a_ending a_stage a_fMethod a_fLine a_held a_lent a_outs a_ends) → wX_prepare_90 post J (nI q) 1 lo (nI q) f_known f_depth f_brief f_outCount f_endCount f_ups f_downs f_steps f_made f_alive f_gift f_ended f_stopped a_length a_lends a_ops a_firsts a_seconds a_thirds a_need a_loan a_hands a_keeps a_come a_numbers a_ints a_counts a_fields a_ending a_stage a_fMethod a_fLine a_held a_lent a_outs a_ends := by
      by_cases hd : hd_P a_length a_lends a_ops a_firsts a_seconds a_thirds a_need (q / 16) (q % 16)
      · refine ⟨1, ⟨fun _ => hd, fun _ => tl_n1⟩, fun post J lo hlo h => ?_⟩
        refine And.intro vq (nm_r (e' := upd a_loan q lo) (by rw [cq]; rcases hlo with rfl | rfl; rw [tl_nz0]; rw [tl_nz1]) (br_f tl_n1' ⟨n16, n16, ?_⟩))
        rw [er, ed]
        exact xa_hands hC hm hi (fun _ => br_f tl_n1' ⟨vq, nm_r (e' := upd a_hands q 1) (by rw [cq, tl_nz1]) (nm_r (nI_1 q) h)⟩) (fun z => absurd hd z)
      · refine ⟨0, ⟨fun z => absurd rfl z, fun z => absurd z hd⟩, fun post J lo hlo h => ?_⟩
        refine And.intro vq (nm_r (e' := upd a_loan q lo) (by rw [cq]; rcases hlo with rfl | rfl; rw [tl_nz0]; rw [tl_nz1]) (br_f tl_n1' ⟨n16, n16, ?_⟩))
        rw [er, ed]
        exact xa_hands hC hm hi (fun z => absurd z hd) (fun _ => br_t rfl ⟨vq, nm_r (e' := upd a_hands q 0) (by rw [cq, tl_nz0]) (nm_r (nI_1 q) h)⟩)
    obtain ⟨ha, h1, h2⟩ := KH
    by_cases hlp : ln_P a_length a_ops a_firsts a_seconds a_thirds a_need (q / 16) (q % 16)
    · refine ⟨1, ha, fun _ => ⟨⟨fun _ => hlp, fun _ => tl_n1⟩, h1⟩, fun post J h z0 hz hz01 => ?_⟩
      have e1 : z0 = 1 := hz.mp hi
      subst e1
      refine br_f tl_n1' ⟨n16, n16, ?_⟩
      rw [er, ed]
      exact xa_lends hC hm hi (fun _ => br_f tl_n1' (h2 post J 1 (Or.inr rfl) h)) (fun z => absurd hlp z)
    · refine ⟨0, ha, fun _ => ⟨⟨fun z => absurd rfl z, fun z => absurd z hlp⟩, h1⟩, fun post J h z0 hz hz01 => ?_⟩
      have e1 : z0 = 1 := hz.mp hi
      subst e1
      refine br_f tl_n1' ⟨n16, n16, ?_⟩
      rw [er, ed]
      exact xa_lends hC hm hi (fun z => absurd z hlp) (fun _ => br_t rfl (h2 post J 0 (Or.inl rfl) h))
  · refine ⟨0, 0, fun z => absurd z hi, fun post J h z0 hz hz01 => ?_⟩
    have e0 : z0 = 0 := hz01.resolve_right (fun z => hi (hz.mpr z))
    subst e0
    exact br_t rfl (And.intro vq (nm_r (e' := upd a_loan q 0) (by rw [cq, tl_nz0]) (br_t rfl ⟨vq, nm_r (e' := upd a_hands q 0) (by rw [cq, tl_nz0]) (nm_r (nI_1 q) h)⟩)))
theorem px_33 (hC : cd_C a_length a_ops a_firsts a_seconds a_thirds b_as b_bs) : ∀ (d q : Nat) (a_loan a_hands : Nat → Int32), q + d = 64 → (∀ p, p < q → px_S a_length a_lends a_ops a_firsts a_seconds a_thirds a_need a_loan a_hands p) → ∃ a_loan' a_hands' : Nat → Int32, (∀ p, p < 64 → px_S a_length a_lends a_ops a_firsts a_seconds a_thirds a_need a_loan' a_hands' p) ∧
    ∀ post : SX → Prop, (∃ n129, wX_prepare_129 post n129 0 f_known f_depth f_brief f_outCount f_endCount f_ups f_downs f_steps f_made f_alive f_gift f_ended f_stopped a_length a_lends a_ops a_firsts a_seconds a_thirds a_need a_loan' a_hands' a_keeps a_come a_numbers a_ints a_counts a_fields a_ending a_stage a_fMethod a_fLine a_held a_lent a_outs a_ends) → wX_prepare_33 post f_known f_depth f_brief f_outCount f_endCount f_ups f_downs f_steps f_made f_alive f_gift f_ended f_stopped (d + 1) (nI q) a_length a_lends a_ops a_firsts a_seconds a_thirds a_need a_loan a_hands a_keeps a_come a_numbers a_ints a_counts a_fields a_ending a_stage a_fMethod a_fLine a_held a_lent a_outs a_ends := by
  intro d
  induction d with
  | zero =>
    intro q a_loan a_hands hq hS
    have e : q = 64 := by omega
    subst e
    refine ⟨a_loan, a_hands, hS, fun post h => ?_⟩
    rw [wX_prepare_33]
    exact br_t (by decide) h
  | succ d ih =>
    intro q a_loan a_hands hq hS
    have ed : nI q / 16 = nI (q / 16) := pk_div (d := 16) (by omega) (by omega) (by omega)
    have er : nI q - nI q / 16 * 16 = nI (q % 16) := pk_rem (d := 16) (by omega) (by omega) (by omega)
    have n16 : ¬ (16 : Int32) = 0 := by decide
    have hl := cd_len hC (show q / 16 < 4 by omega)
    have cm : (nI (q / 16)).toNatClampNeg = q / 16 := nI_clamp (by omega)
    obtain ⟨lo, ha, h1, h2⟩ := px_60 (f_known := f_known) (f_depth := f_depth) (f_brief := f_brief) (f_outCount := f_outCount) (f_endCount := f_endCount) (f_ups := f_ups) (f_downs := f_downs) (f_steps := f_steps) (f_made := f_made) (f_alive := f_alive) (f_gift := f_gift) (f_ended := f_ended) (f_stopped := f_stopped) (a_length := a_length) (a_lends := a_lends) (a_ops := a_ops) (a_firsts := a_firsts) (a_seconds := a_seconds) (a_thirds := a_thirds) (a_need := a_need) (a_loan := a_loan) (a_hands := a_hands) (a_keeps := a_keeps) (a_come := a_come) (a_numbers := a_numbers) (a_ints := a_ints) (a_counts := a_counts) (a_fields := a_fields) (a_ending := a_ending) (a_stage := a_stage) (a_fMethod := a_fMethod) (a_fLine := a_fLine) (a_held := a_held) (a_lent := a_lent) (a_outs := a_outs) (a_ends := a_ends) (q := q) hC (by omega)
    obtain ⟨a_loan', a_hands', g1, g2⟩ := ih (q + 1) (upd a_loan q lo) (upd a_hands q ha) (by omega) (fun p hp => by
      by_cases z : p = q
      · subst z
        unfold px_S
        rw [tl_us, tl_us]
        exact h1
      · unfold px_S
        rw [tl_un z, tl_un z]
        exact hS p (by omega))
    refine ⟨a_loan', a_hands', g1, fun post h => ?_⟩
    rw [wX_prepare_33]
    refine br_f (nI_ge (b := 64) (by omega) (by omega)) ⟨n16, n16, ?_⟩
    rw [er, ed, cm, hl.2]
    have K := h2 post (wX_prepare_33 post f_known f_depth f_brief f_outCount f_endCount f_ups f_downs f_steps f_made f_alive f_gift f_ended f_stopped (d + 1)) (g2 post h)
    refine ⟨vp_in_nI (by omega) (by omega), br_c (fun z => K 0 ⟨fun w => ?_, fun w => absurd w (by decide)⟩ (Or.inl rfl)) (fun z => K 1 ⟨fun _ => rfl, fun _ => ?_⟩ (Or.inr rfl))⟩
    · rw [nI_leI (by omega) (by omega)] at z
      omega
    · rw [nI_leI (by omega) (by omega)] at z
      omega
theorem px_129 (hC : cd_C a_length a_ops a_firsts a_seconds a_thirds b_as b_bs) (hN : ∀ m, m < 4 → nd_OK a_length a_ops a_firsts a_seconds a_thirds m a_need) (hS : ∀ p, p < 64 → px_S a_length a_lends a_ops a_firsts a_seconds a_thirds a_need a_loan a_hands p) : ∀ (d c : Nat) (a_keeps a_come : Nat → Int32), c + d = 4 → (∀ m, m < c → kx_OK a_length a_lends a_ops a_firsts a_seconds a_thirds a_need a_loan a_hands m a_keeps a_come) → ∃ a_keeps' a_come' : Nat → Int32, (∀ m, m < 4 → kx_OK a_length a_lends a_ops a_firsts a_seconds a_thirds a_need a_loan a_hands m a_keeps' a_come') ∧
    ∀ post : SX → Prop, post (f_known, f_depth, f_brief, f_outCount, f_endCount, f_ups, f_downs, f_steps, f_made, f_alive, f_gift, f_ended, f_stopped, a_length, a_lends, a_ops, a_firsts, a_seconds, a_thirds, a_need, a_loan, a_hands, a_keeps', a_come', a_numbers, a_ints, a_counts, a_fields, a_ending, a_stage, a_fMethod, a_fLine, a_held, a_lent, a_outs, a_ends) → wX_prepare_129 post (d + 1) (nI c) f_known f_depth f_brief f_outCount f_endCount f_ups f_downs f_steps f_made f_alive f_gift f_ended f_stopped a_length a_lends a_ops a_firsts a_seconds a_thirds a_need a_loan a_hands a_keeps a_come a_numbers a_ints a_counts a_fields a_ending a_stage a_fMethod a_fLine a_held a_lent a_outs a_ends := by
  intro d
  induction d with
  | zero =>
    intro c a_keeps a_come hc hO
    have e : c = 4 := by omega
    subst e
    refine ⟨a_keeps, a_come, hO, fun post h => ?_⟩
    rw [wX_prepare_129]
    exact br_t (by decide) h
  | succ d ih =>
    intro c a_keeps a_come hc hO
    have hl := cd_len hC (show c < 4 by omega)
    obtain ⟨kp1, co1, h1, h2, h3⟩ := xa_keep (f_known := f_known) (f_depth := f_depth) (f_brief := f_brief) (f_outCount := f_outCount) (f_endCount := f_endCount) (f_ups := f_ups) (f_downs := f_downs) (f_steps := f_steps) (f_made := f_made) (f_alive := f_alive) (f_gift := f_gift) (f_ended := f_ended) (f_stopped := f_stopped) (a_length := a_length) (a_lends := a_lends) (a_ops := a_ops) (a_firsts := a_firsts) (a_seconds := a_seconds) (a_thirds := a_thirds) (a_need := a_need) (a_loan := a_loan) (a_hands := a_hands) (a_numbers := a_numbers) (a_ints := a_ints) (a_counts := a_counts) (a_fields := a_fields) (a_ending := a_ending) (a_stage := a_stage) (a_fMethod := a_fMethod) (a_fLine := a_fLine) (a_held := a_held) (a_lent := a_lent) (a_outs := a_outs) (a_ends := a_ends) (a_keeps := a_keeps) (a_come := a_come) (m := c) hC (by omega) (fun j hj => (hN c (by omega) j hj).1) (fun j hj hz => by
      have := hS (16 * c + j) (by omega)
      unfold px_S at this
      rw [show (16 * c + j) / 16 = c by omega, show (16 * c + j) % 16 = j by omega] at this
      obtain ⟨b, hb, es, _⟩ := (this hj).2.mp hz
      exact ⟨b, hb, es⟩)
    obtain ⟨a_keeps', a_come', g1, g2⟩ := ih (c + 1) kp1 co1 (by omega) (fun m hm => by
      by_cases z : m = c
      · rw [z]; exact h1
      · have hl := (cd_len hC (show m < 4 by omega)).1
        exact kx_cg (fun j hj => h2 _ (by omega)) (hO m (by omega)))
    refine ⟨a_keeps', a_come', g1, fun post h => ?_⟩
    rw [wX_prepare_129]
    exact br_f (nI_ge (b := 4) (by omega) (by omega)) (h3 _ (nm_r (nI_1 c) (g2 post h)))
/-- X: all that is found -/
theorem px_all (hC : cd_C a_length a_ops a_firsts a_seconds a_thirds b_as b_bs) (hk : f_known = 0) : ∃ (a_need' a_loan' a_hands' a_keeps' a_come' : Nat → Int32), (∀ m, m < 4 → nd_OK a_length a_ops a_firsts a_seconds a_thirds m a_need') ∧ (∀ p, p < 64 → px_S a_length a_lends a_ops a_firsts a_seconds a_thirds a_need' a_loan' a_hands' p) ∧
    (∀ m, m < 4 → kx_OK a_length a_lends a_ops a_firsts a_seconds a_thirds a_need' a_loan' a_hands' m a_keeps' a_come') ∧ ∀ post : SX → Prop, post (1, f_depth, f_brief, f_outCount, f_endCount, f_ups, f_downs, f_steps, f_made, f_alive, f_gift, f_ended, f_stopped, a_length, a_lends, a_ops, a_firsts, a_seconds, a_thirds, a_need', a_loan', a_hands', a_keeps', a_come', a_numbers, a_ints, a_counts, a_fields, a_ending, a_stage, a_fMethod, a_fLine, a_held, a_lent, a_outs, a_ends) → wpX_prepare post (f_known, f_depth, f_brief, f_outCount, f_endCount, f_ups, f_downs, f_steps, f_made, f_alive, f_gift, f_ended, f_stopped, a_length, a_lends, a_ops, a_firsts, a_seconds, a_thirds, a_need, a_loan, a_hands, a_keeps, a_come, a_numbers, a_ints, a_counts, a_fields, a_ending, a_stage, a_fMethod, a_fLine, a_held, a_lent, a_outs, a_ends) := by
  obtain ⟨a_need', h1, h2⟩ := px_15 (f_known := 1) (f_depth := f_depth) (f_brief := f_brief) (f_outCount := f_outCount) (f_endCount := f_endCount) (f_ups := f_ups) (f_downs := f_downs) (f_steps := f_steps) (f_made := f_made) (f_alive := f_alive) (f_gift := f_gift) (f_ended := f_ended) (f_stopped := f_stopped) (a_lends := a_lends) (a_loan := a_loan) (a_hands := a_hands) (a_keeps := a_keeps) (a_come := a_come) (a_numbers := a_numbers) (a_ints := a_ints) (a_counts := a_counts) (a_fields := a_fields) (a_ending := a_ending) (a_stage := a_stage) (a_fMethod := a_fMethod) (a_fLine := a_fLine) (a_held := a_held) (a_lent := a_lent) (a_outs := a_outs) (a_ends := a_ends) hC 4 0 a_need rfl (fun m hm => by omega)
  obtain ⟨a_loan', a_hands', h3, h4⟩ := px_33 (f_known := 1) (f_depth := f_depth) (f_brief := f_brief) (f_outCount := f_outCount) (f_endCount := f_endCount) (f_ups := f_ups) (f_downs := f_downs) (f_steps := f_steps) (f_made := f_made) (f_alive := f_alive) (f_gift := f_gift) (f_ended := f_ended) (f_stopped := f_stopped) (a_length := a_length) (a_lends := a_lends) (a_ops := a_ops) (a_firsts := a_firsts) (a_seconds := a_seconds) (a_thirds := a_thirds) (a_need := a_need') (a_keeps := a_keeps) (a_come := a_come) (a_numbers := a_numbers) (a_ints := a_ints) (a_counts := a_counts) (a_fields := a_fields) (a_ending := a_ending) (a_stage := a_stage) (a_fMethod := a_fMethod) (a_fLine := a_fLine) (a_held := a_held) (a_lent := a_lent) (a_outs := a_outs) (a_ends := a_ends) hC 64 0 a_loan a_hands rfl (fun p hp => by omega)
  obtain ⟨a_keeps', a_come', h5, h6⟩ := px_129 (f_known := 1) (f_depth := f_depth) (f_brief := f_brief) (f_outCount := f_outCount) (f_endCount := f_endCount) (f_ups := f_ups) (f_downs := f_downs) (f_steps := f_steps) (f_made := f_made) (f_alive := f_alive) (f_gift := f_gift) (f_ended := f_ended) (f_stopped := f_stopped) (a_length := a_length) (a_lends := a_lends) (a_ops := a_ops) (a_firsts := a_firsts) (a_seconds := a_seconds) (a_thirds := a_thirds) (a_need := a_need') (a_loan := a_loan') (a_hands := a_hands') (a_numbers := a_numbers) (a_ints := a_ints) (a_counts := a_counts) (a_fields := a_fields) (a_ending := a_ending) (a_stage := a_stage) (a_fMethod := a_fMethod) (a_fLine := a_fLine) (a_held := a_held) (a_lent := a_lent) (a_outs := a_outs) (a_ends := a_ends) hC h1 h3 4 0 a_keeps a_come rfl (fun m hm => by omega)
  exact ⟨a_need', a_loan', a_hands', a_keeps', a_come', h1, h3, h5, fun post hp => br_t hk ⟨5, h2 post ⟨65, h4 post ⟨5, h6 post hp⟩⟩⟩⟩
end
end
section
section
variable {f_known f_depth f_brief f_outCount f_endCount f_ups f_downs f_steps f_made f_alive f_gift f_ended f_stopped : Int32} {a_length a_lends a_ops a_firsts a_seconds a_thirds a_need a_loan a_hands a_keeps a_come a_numbers a_ints a_counts a_fields a_ending a_stage a_fMethod a_fLine a_held a_lent a_outs a_ends : Nat → Int32}
variable {g_known g_made g_living g_counted g_less g_depth g_begun g_given g_outcome g_isShort g_ran g_put g_ended : Int32} {b_ops b_as b_bs b_cs b_size b_lent b_need b_plans b_keep b_value b_fields b_alive b_method b_pc b_variable b_loan b_outs b_ends b_todo b_phase : Nat → Int32}
variable {m i l k : Nat}
theorem tl_uu {f : Nat → Int32} {x y : Int32} : upd (upd f k x) k y = upd f k y := by
  funext j
  by_cases z : j = k
  · rw [z, tl_us, tl_us]
  · rw [tl_un z, tl_un z, tl_un z]
theorem ly_49 (hC : cd_C a_length a_ops a_firsts a_seconds a_thirds b_as b_bs) (hm : m < 4) (hi : i < rn_len a_length m) : ∀ (d v : Nat) (b_need : Nat → Int32), v + d = 6 → ∃ val : Int32, (∀ w, bt val w = true ↔ bt (b_need (16 * m + i)) w = true ∨ (v ≤ w ∧ w < 6 ∧ nd_N a_length a_ops a_firsts a_seconds a_thirds m w i)) ∧
    ∀ (post : SY → Prop) (J15 : Int32 → Int32 → Int32 → Int32 → Int32 → Int32 → Int32 → Int32 → Int32 → Int32 → Int32 → Int32 → Int32 → Int32 → (Nat → Int32) → (Nat → Int32) → (Nat → Int32) → (Nat → Int32) → (Nat → Int32) → (Nat → Int32) → (Nat → Int32) → (Nat → Int32) → (Nat → Int32) → (Nat → Int32) → (Nat → Int32) → (Nat → Int32) → (Nat → Int32) → (Nat → Int32) → (Nat → Int32) → (Nat → Int32) → (Nat → Int32) → (Nat → Int32) → (Nat → Int32) → (Nat → Int32) → Prop) (J25 : Int32 → (Nat → Int32) → (Nat → Int32) → (Nat → Int32) → (Nat → Int32) → (Nat → Int32) → (Nat → Int32) → (Nat → Int32) → (Nat → Int32) → (Nat → Int32) → (Nat → Int32) → (Nat → Int32) → (Nat → Int32) → (Nat → Int32) → (Nat → Int32) → (Nat → Int32) → (Nat → Int32) → (Nat → Int32) → (Nat → Int32) → (Nat → Int32) → (Nat → Int32) → Prop), J25 (nI (16 * m + i + 1)) a_ops b_as b_bs a_thirds a_length a_lends (upd b_need (16 * m + i) val) b_plans b_keep b_value b_fields b_alive b_method b_pc b_variable b_loan b_outs b_ends b_todo b_phase → wY_look_49 post J15 J25 (nI m) (nI (16 * m + i)) g_known g_made g_living g_counted g_less g_depth g_begun g_given g_outcome g_isShort g_ran g_put g_ended (d + 1) (nI v) a_ops b_as b_bs a_thirds a_length a_lends b_need b_plans b_keep b_value b_fields b_alive b_method b_pc b_variable b_loan b_outs b_ends b_todo b_phase := by
  have hl := cd_len hC hm
  have ck : (nI (16 * m + i)).toNatClampNeg = 16 * m + i := nI_clamp (by omega)
  have vk : vp_in (nI (16 * m + i)) 64 := vp_in_nI (by omega) (by omega)
  have esub : nI (16 * m + i) - 16 * nI m = nI i := by
    rw [tl_16a, pk_sub (by omega)]
    exact congrArg nI (by omega)
  intro d
  induction d with
  | zero =>
    intro v b_need hv
    have e : v = 6 := by omega
    subst e
    refine ⟨b_need (16 * m + i), fun w => ⟨fun g => Or.inl g, fun g => g.elim id (fun q => by omega)⟩, fun post J15 J25 h => ?_⟩
    rw [tl_uid rfl] at h
    rw [wY_look_49]
    exact br_t (by decide) (nm_r (nI_1 _) h)
  | succ d ih =>
    intro v b_need hv
    have h6 : ¬ (6 : Int32) ≤ nI v := nI_ge (b := 6) (by omega) (by omega)
    by_cases hn : nd_N a_length a_ops a_firsts a_seconds a_thirds m v i
    · obtain ⟨val, h1, h2⟩ := ih (v + 1) (upd b_need (16 * m + i) (b_need (16 * m + i) ||| ((1 : Int32) <<< (nI v &&& 31)))) (by omega)
      refine ⟨val, fun w => ?_, fun post J15 J25 h => ?_⟩
      · rw [h1 w, tl_us, bt_set _ (by omega), Bool.or_eq_true, decide_eq_true_iff]
        constructor
        · intro g
          rcases g with (g | g) | ⟨g1, g2, g3⟩
          · exact Or.inl g
          · subst g
            exact Or.inr ⟨by omega, by omega, hn⟩
          · exact Or.inr ⟨by omega, g2, g3⟩
        · intro g
          rcases g with g | ⟨g1, g2, g3⟩
          · exact Or.inl (Or.inl g)
          · by_cases z : w = v
            · exact Or.inl (Or.inr z)
            · exact Or.inr ⟨by omega, g2, g3⟩
      · rw [wY_look_49]
        refine br_f h6 ?_
        rw [esub]
        refine ya_need hC hm (by omega) hi (fun _ => br_f tl_n1' ⟨vk, vk, ?_⟩) (fun z => absurd hn z)
        rw [ck]
        rw [← tl_uu (x := b_need (16 * m + i) ||| ((1 : Int32) <<< (nI v &&& 31)))] at h
        exact nm_e (nm_r (nI_1 v) (h2 post J15 J25 h))
    · obtain ⟨val, h1, h2⟩ := ih (v + 1) b_need (by omega)
      refine ⟨val, fun w => ?_, fun post J15 J25 h => ?_⟩
      · rw [h1 w]
        constructor
        · intro g
          rcases g with g | ⟨g1, g2, g3⟩
          · exact Or.inl g
          · exact Or.inr ⟨by omega, g2, g3⟩
        · intro g
          rcases g with g | ⟨g1, g2, g3⟩
          · exact Or.inl g
          · refine Or.inr ⟨Nat.lt_of_le_of_ne g1 (fun z => hn ?_), g2, g3⟩
            rw [z]; exact g3
      · rw [wY_look_49]
        refine br_f h6 ?_
        rw [esub]
        exact ya_need hC hm (by omega) hi (fun z => absurd z hn) (fun _ => br_t rfl (nm_r (nI_1 v) (h2 post J15 J25 h)))
theorem ly_25 (hC : cd_C a_length a_ops a_firsts a_seconds a_thirds b_as b_bs) (hm : m < 4) : ∀ (d i : Nat) (b_need : Nat → Int32), i + d = rn_len a_length m → ∃ b_need' : Nat → Int32, (∀ j, i ≤ j → j < rn_len a_length m → mkL 6 (b_need' (16 * m + j)) ∧ ∀ v, v < 6 → (bt (b_need' (16 * m + j)) v = true ↔ nd_N a_length a_ops a_firsts a_seconds a_thirds m v j)) ∧ (∀ q, (q < 16 * m + i ∨ 16 * m + 16 ≤ q) → b_need' q = b_need q) ∧
    ∀ (post : SY → Prop) (J15 : Int32 → Int32 → Int32 → Int32 → Int32 → Int32 → Int32 → Int32 → Int32 → Int32 → Int32 → Int32 → Int32 → Int32 → (Nat → Int32) → (Nat → Int32) → (Nat → Int32) → (Nat → Int32) → (Nat → Int32) → (Nat → Int32) → (Nat → Int32) → (Nat → Int32) → (Nat → Int32) → (Nat → Int32) → (Nat → Int32) → (Nat → Int32) → (Nat → Int32) → (Nat → Int32) → (Nat → Int32) → (Nat → Int32) → (Nat → Int32) → (Nat → Int32) → (Nat → Int32) → (Nat → Int32) → Prop), (∃ n99, wY_look_99 post J15 (nI m) g_known g_made g_living g_counted g_less g_depth g_begun g_given g_outcome g_isShort g_ran g_put g_ended n99 (nI (16 * m)) a_ops b_as b_bs a_thirds a_length a_lends b_need' b_plans b_keep b_value b_fields b_alive b_method b_pc b_variable b_loan b_outs b_ends b_todo b_phase) → wY_look_25 post J15 (nI m) g_known g_made g_living g_counted g_less g_depth g_begun g_given g_outcome g_isShort g_ran g_put g_ended (d + 1) (nI (16 * m + i)) a_ops b_as b_bs a_thirds a_length a_lends b_need b_plans b_keep b_value b_fields b_alive b_method b_pc b_variable b_loan b_outs b_ends b_todo b_phase := by
  have hl := cd_len hC hm
  have cm : (nI m).toNatClampNeg = m := nI_clamp (by omega)
  have vm : vp_in (nI m) 4 := vp_in_nI (by omega) (by omega)
  intro d
  induction d with
  | zero =>
    intro i b_need hi
    refine ⟨b_need, fun j h1 h2 => by omega, fun _ _ => rfl, fun post J15 h => ?_⟩
    rw [wY_look_25]
    refine ⟨vm, br_t ?_ (nm_r (tl_16a m) h)⟩
    rw [cm, hl.2, tl_16]
    exact nI_le (by omega) (by omega)
  | succ d ih =>
    intro i b_need hi
    have hil : i < rn_len a_length m := by omega
    have ck : (nI (16 * m + i)).toNatClampNeg = 16 * m + i := nI_clamp (by omega)
    have vk : vp_in (nI (16 * m + i)) 64 := vp_in_nI (by omega) (by omega)
    obtain ⟨val, h1, h2⟩ := ly_49 (g_known := g_known) (g_made := g_made) (g_living := g_living) (g_counted := g_counted) (g_less := g_less) (g_depth := g_depth) (g_begun := g_begun) (g_given := g_given) (g_outcome := g_outcome) (g_isShort := g_isShort) (g_ran := g_ran) (g_put := g_put) (g_ended := g_ended) (b_plans := b_plans) (b_keep := b_keep) (b_value := b_value) (b_fields := b_fields) (b_alive := b_alive) (b_method := b_method) (b_pc := b_pc) (b_variable := b_variable) (b_loan := b_loan) (b_outs := b_outs) (b_ends := b_ends) (b_todo := b_todo) (b_phase := b_phase) hC hm hil 6 0 (upd b_need (16 * m + i) 0) (by omega)
    rw [tl_uu] at h2
    obtain ⟨b_need', g1, g2, g3⟩ := ih (i + 1) (upd b_need (16 * m + i) val) (by omega)
    have hv : b_need' (16 * m + i) = val := by rw [g2 _ (by omega), tl_us]
    have hvb : ∀ w, bt val w = true ↔ w < 6 ∧ nd_N a_length a_ops a_firsts a_seconds a_thirds m w i := fun w => by
      rw [h1 w, tl_us, b_0]
      exact ⟨fun g => g.elim (fun q => absurd q (by decide)) (fun q => q.2), fun g => Or.inr ⟨by omega, g⟩⟩
    refine ⟨b_need', fun j q1 q2 => ?_, fun q hq => ?_, fun post J15 h => ?_⟩
    · by_cases z : j = i
      · rw [z, hv]
        refine ⟨fun w hw => ?_, fun v hv6 => ?_⟩
        · cases q : bt val w
          · rfl
          · have := ((hvb w).mp q).1
            omega
        · rw [hvb v]
          exact ⟨fun g => g.2, fun g => ⟨hv6, g⟩⟩
      · exact g1 j (by omega) q2
    · rw [g2 q (by omega), tl_un (by omega)]
    · rw [wY_look_25]
      refine ⟨vm, br_f ?_ ?_⟩
      · rw [cm, hl.2, tl_16]
        exact nI_ge (by omega) (by omega)
      · rw [ck]
        exact ⟨vk, nm_e ⟨7, h2 post J15 _ (g3 post J15 h)⟩⟩
def ly_P (a_length a_lends a_ops a_firsts a_seconds a_thirds a_need : Nat → Int32) (m : Nat) (b_plans : Nat → Int32) (j : Nat) : Prop :=
  (ln_P a_length a_ops a_firsts a_seconds a_thirds a_need m j → b_plans (16 * m + j) = 1) ∧ (¬ ln_P a_length a_ops a_firsts a_seconds a_thirds a_need m j → hd_P a_length a_lends a_ops a_firsts a_seconds a_thirds a_need m j → b_plans (16 * m + j) = 2) ∧ (¬ ln_P a_length a_ops a_firsts a_seconds a_thirds a_need m j → ¬ hd_P a_length a_lends a_ops a_firsts a_seconds a_thirds a_need m j → b_plans (16 * m + j) = 0)
/-- what Y does behind the plans of a method -/
def ly_E (post : SY → Prop) (J15 : Int32 → Int32 → Int32 → Int32 → Int32 → Int32 → Int32 → Int32 → Int32 → Int32 → Int32 → Int32 → Int32 → Int32 → (Nat → Int32) → (Nat → Int32) → (Nat → Int32) → (Nat → Int32) → (Nat → Int32) → (Nat → Int32) → (Nat → Int32) → (Nat → Int32) → (Nat → Int32) → (Nat → Int32) → (Nat → Int32) → (Nat → Int32) → (Nat → Int32) → (Nat → Int32) → (Nat → Int32) → (Nat → Int32) → (Nat → Int32) → (Nat → Int32) → (Nat → Int32) → (Nat → Int32) → Prop) (m : Nat) (g_known g_made g_living g_counted g_less g_depth g_begun g_given g_outcome g_isShort g_ran g_put g_ended : Int32) (b_ops b_as b_bs b_cs b_size b_lent b_need b_plans b_keep b_value b_fields b_alive b_method b_pc b_variable b_loan b_outs b_ends b_todo b_phase : Nat → Int32) : Prop :=
  vp_in (nI m) 4 ∧ ((((b_size (nI m).toNatClampNeg) ≤ 0 → (∃ n214 : Nat, wY_look_214 post J15 (nI m) n214 1 g_known g_made g_living g_counted g_less g_depth g_begun g_given g_outcome g_isShort g_ran g_put g_ended b_ops b_as b_bs b_cs b_size b_lent b_need b_plans b_keep b_value b_fields b_alive b_method b_pc b_variable b_loan b_outs b_ends b_todo b_phase)) ∧ (¬ (b_size (nI m).toNatClampNeg) ≤ 0 → (vp_in (nI m) 4 ∧ ((((b_lent (nI m).toNatClampNeg) = 0 → (vp_in (16 * nI m) 64 ∧ (vp_in (16 * nI m) 64 ∧ ∀ kp : Nat → Int32, kp = upd b_keep (16 * nI m).toNatClampNeg ((b_need (16 * nI m).toNatClampNeg) &&& 1) → (∃ n214 : Nat, wY_look_214 post J15 (nI m) n214 1 g_known g_made g_living g_counted g_less g_depth g_begun g_given g_outcome g_isShort g_ran g_put g_ended b_ops b_as b_bs b_cs b_size b_lent b_need b_plans kp b_value b_fields b_alive b_method b_pc b_variable b_loan b_outs b_ends b_todo b_phase)))) ∧ (¬ (b_lent (nI m).toNatClampNeg) = 0 → (vp_in (16 * nI m) 64 ∧ ∀ kp : Nat → Int32, kp = upd b_keep (16 * nI m).toNatClampNeg 0 → (∃ n214 : Nat, wY_look_214 post J15 (nI m) n214 1 g_known g_made g_living g_counted g_less g_depth g_begun g_given g_outcome g_isShort g_ran g_put g_ended b_ops b_as b_bs b_cs b_size b_lent b_need b_plans kp b_value b_fields b_alive b_method b_pc b_variable b_loan b_outs b_ends b_todo b_phase)))))))))
theorem ly_99 (hC : cd_C a_length a_ops a_firsts a_seconds a_thirds b_as b_bs) (hm : m < 4) (hN : ∀ j, j < rn_len a_length m → b_need (16 * m + j) = a_need (16 * m + j)) : ∀ (d i : Nat) (b_plans b_keep : Nat → Int32), i + d = rn_len a_length m → ∃ b_plans' b_keep' : Nat → Int32, (∀ j, i ≤ j → j < rn_len a_length m → ly_P a_length a_lends a_ops a_firsts a_seconds a_thirds a_need m b_plans' j ∧ b_keep' (16 * m + j) = -1) ∧ (∀ q, (q < 16 * m + i ∨ 16 * m + 16 ≤ q) → b_plans' q = b_plans q ∧ b_keep' q = b_keep q) ∧
    ∀ (post : SY → Prop) (J15 : Int32 → Int32 → Int32 → Int32 → Int32 → Int32 → Int32 → Int32 → Int32 → Int32 → Int32 → Int32 → Int32 → Int32 → (Nat → Int32) → (Nat → Int32) → (Nat → Int32) → (Nat → Int32) → (Nat → Int32) → (Nat → Int32) → (Nat → Int32) → (Nat → Int32) → (Nat → Int32) → (Nat → Int32) → (Nat → Int32) → (Nat → Int32) → (Nat → Int32) → (Nat → Int32) → (Nat → Int32) → (Nat → Int32) → (Nat → Int32) → (Nat → Int32) → (Nat → Int32) → (Nat → Int32) → Prop), ly_E post J15 m g_known g_made g_living g_counted g_less g_depth g_begun g_given g_outcome g_isShort g_ran g_put g_ended a_ops b_as b_bs a_thirds a_length a_lends b_need b_plans' b_keep' b_value b_fields b_alive b_method b_pc b_variable b_loan b_outs b_ends b_todo b_phase → wY_look_99 post J15 (nI m) g_known g_made g_living g_counted g_less g_depth g_begun g_given g_outcome g_isShort g_ran g_put g_ended (d + 1) (nI (16 * m + i)) a_ops b_as b_bs a_thirds a_length a_lends b_need b_plans b_keep b_value b_fields b_alive b_method b_pc b_variable b_loan b_outs b_ends b_todo b_phase := by
  have hl := cd_len hC hm
  have cm : (nI m).toNatClampNeg = m := nI_clamp (by omega)
  have vm : vp_in (nI m) 4 := vp_in_nI (by omega) (by omega)
  intro d
  induction d with
  | zero =>
    intro i b_plans b_keep hi
    refine ⟨b_plans, b_keep, fun j h1 h2 => by omega, fun _ _ => ⟨rfl, rfl⟩, fun post J15 h => ?_⟩
    rw [wY_look_99]
    refine ⟨vm, br_t ?_ h⟩
    rw [cm, hl.2, tl_16]
    exact nI_le (by omega) (by omega)
  | succ d ih =>
    intro i b_plans b_keep hi
    have hil : i < rn_len a_length m := by omega
    have ck : (nI (16 * m + i)).toNatClampNeg = 16 * m + i := nI_clamp (by omega)
    have vk : vp_in (nI (16 * m + i)) 64 := vp_in_nI (by omega) (by omega)
    have esub : nI (16 * m + i) - 16 * nI m = nI i := by
      rw [tl_16a, pk_sub (by omega)]
      exact congrArg nI (by omega)
    have hge : ¬ 16 * nI m + a_length (nI m).toNatClampNeg ≤ nI (16 * m + i) := by
      rw [cm, hl.2, tl_16]
      exact nI_ge (by omega) (by omega)
    -- the plan's value
    obtain ⟨z0, hz, hY⟩ : ∃ z0 : Int32, ((ln_P a_length a_ops a_firsts a_seconds a_thirds a_need m i → z0 = 1) ∧ (¬ ln_P a_length a_ops a_firsts a_seconds a_thirds a_need m i → hd_P a_length a_lends a_ops a_firsts a_seconds a_thirds a_need m i → z0 = 2) ∧ (¬ ln_P a_length a_ops a_firsts a_seconds a_thirds a_need m i → ¬ hd_P a_length a_lends a_ops a_firsts a_seconds a_thirds a_need m i → z0 = 0)) ∧
        ∀ (post : SY → Prop) (J15 : Int32 → Int32 → Int32 → Int32 → Int32 → Int32 → Int32 → Int32 → Int32 → Int32 → Int32 → Int32 → Int32 → Int32 → (Nat → Int32) → (Nat → Int32) → (Nat → Int32) → (Nat → Int32) → (Nat → Int32) → (Nat → Int32) → (Nat → Int32) → (Nat → Int32) → (Nat → Int32) → (Nat → Int32) → (Nat → Int32) → (Nat → Int32) → (Nat → Int32) → (Nat → Int32) → (Nat → Int32) → (Nat → Int32) → (Nat → Int32) → (Nat → Int32) → (Nat → Int32) → (Nat → Int32) → Prop) n, wY_look_99 post J15 (nI m) g_known g_made g_living g_counted g_less g_depth g_begun g_given g_outcome g_isShort g_ran g_put g_ended n (nI (16 * m + (i + 1))) a_ops b_as b_bs a_thirds a_length a_lends b_need (upd b_plans (16 * m + i) z0) (upd b_keep (16 * m + i) (-1)) b_value b_fields b_alive b_method b_pc b_variable b_loan b_outs b_ends b_todo b_phase → wY_look_99 post J15 (nI m) g_known g_made g_living g_counted g_less g_depth g_begun g_given g_outcome g_isShort g_ran g_put g_ended (n + 1) (nI (16 * m + i)) a_ops b_as b_bs a_thirds a_length a_lends b_need b_plans b_keep b_value b_fields b_alive b_method b_pc b_variable b_loan b_outs b_ends b_todo b_phase := by
      have K156 : ∀ (z0 : Int32) (post : SY → Prop) (J15 : Int32 → Int32 → Int32 → Int32 → Int32 → Int32 → Int32 → Int32 → Int32 → Int32 → Int32 → Int32 → Int32 → Int32 → (Nat → Int32) → (Nat → Int32) → (Nat → Int32) → (Nat → Int32) → (Nat → Int32) → (Nat → Int32) → (Nat → Int32) → (Nat → Int32) → (Nat → Int32) → (Nat → Int32) → (Nat → Int32) → (Nat → Int32) → (Nat → Int32) → (Nat → Int32) → (Nat → Int32) → (Nat → Int32) → (Nat → Int32) → (Nat → Int32) → (Nat → Int32) → (Nat → Int32) → Prop) n, wY_look_99 post J15 (nI m) g_known g_made g_living g_counted g_less g_depth g_begun g_given g_outcome g_isShort g_ran g_put g_ended n (nI (16 * m + (i + 1))) a_ops b_as b_bs a_thirds a_length a_lends b_need (upd b_plans (16 * m + i) z0) (upd b_keep (16 * m + i) (-1)) b_value b_fields b_alive b_method b_pc b_variable b_loan b_outs b_ends b_todo b_phase → wY_look_156 post J15 (wY_look_99 post J15 (nI m) g_known g_made g_living g_counted g_less g_depth g_begun g_given g_outcome g_isShort g_ran g_put g_ended n) (nI m) (nI (16 * m + i)) z0 (nI (16 * m + i)) g_known g_made g_living g_counted g_less g_depth g_begun g_given g_outcome g_isShort g_ran g_put g_ended a_ops b_as b_bs a_thirds a_length a_lends b_need b_plans b_keep b_value b_fields b_alive b_method b_pc b_variable b_loan b_outs b_ends b_todo b_phase := by
        intro z0 post J15 n h
        exact And.intro vk (nm_r (e' := upd b_plans (16 * m + i) z0) (by rw [ck]) (And.intro vk (nm_r (e' := upd b_keep (16 * m + i) (-1)) (by rw [ck]) (nm_r (nI_1 _) h))))
      by_cases hln : ln_P a_length a_ops a_firsts a_seconds a_thirds a_need m i
      · refine ⟨1, ⟨fun _ => rfl, fun z => absurd hln z, fun z => absurd hln z⟩, fun post J15 n h => ?_⟩
        rw [wY_look_99]
        refine ⟨vm, br_f hge ?_⟩
        rw [esub]
        exact ya_loan hC hm hil hN (fun _ => br_f tl_n1' (K156 1 post J15 n h)) (fun z => absurd hln z)
      · by_cases hhd : hd_P a_length a_lends a_ops a_firsts a_seconds a_thirds a_need m i
        · refine ⟨2, ⟨fun z => absurd z hln, fun _ _ => rfl, fun _ z => absurd hhd z⟩, fun post J15 n h => ?_⟩
          rw [wY_look_99]
          refine ⟨vm, br_f hge ?_⟩
          rw [esub]
          refine ya_loan hC hm hil hN (fun z => absurd z hln) (fun _ => br_t rfl ?_)
          exact ya_hands hC hm hil hN (fun _ => br_f tl_n1' (K156 2 post J15 n h)) (fun z => absurd hhd z)
        · refine ⟨0, ⟨fun z => absurd z hln, fun _ z => absurd z hhd, fun _ _ => rfl⟩, fun post J15 n h => ?_⟩
          rw [wY_look_99]
          refine ⟨vm, br_f hge ?_⟩
          rw [esub]
          refine ya_loan hC hm hil hN (fun z => absurd z hln) (fun _ => br_t rfl ?_)
          exact ya_hands hC hm hil hN (fun z => absurd z hhd) (fun _ => br_t rfl (K156 0 post J15 n h))
    obtain ⟨b_plans', b_keep', g1, g2, g3⟩ := ih (i + 1) (upd b_plans (16 * m + i) z0) (upd b_keep (16 * m + i) (-1)) (by omega)
    refine ⟨b_plans', b_keep', fun j q1 q2 => ?_, fun q hq => ?_, fun post J15 h => hY post J15 _ (g3 post J15 h)⟩
    · by_cases z : j = i
      · subst z
        obtain ⟨w1, w2⟩ := g2 (16 * m + j) (by omega)
        unfold ly_P
        rw [w1, w2, tl_us, tl_us]
        exact ⟨hz, rfl⟩
      · exact g1 j (by omega) q2
    · obtain ⟨w1, w2⟩ := g2 q (by omega)
      rw [w1, w2, tl_un (by omega), tl_un (by omega)]
      exact ⟨rfl, rfl⟩
/-- what Y knows of a method, against X's arrays -/
def ly_M (a_length a_lends a_ops a_firsts a_seconds a_thirds a_need a_loan a_hands : Nat → Int32) (m : Nat) (b_need b_plans b_keep : Nat → Int32) : Prop :=
  (∀ j, j < rn_len a_length m → b_need (16 * m + j) = a_need (16 * m + j)) ∧ (∀ j, j < rn_len a_length m → b_plans (16 * m + j) = if a_loan (16 * m + j) ≠ 0 then 1 else if a_hands (16 * m + j) ≠ 0 then 2 else 0) ∧
  ky_A a_length a_lends a_ops a_firsts a_seconds a_thirds a_need a_loan a_hands m b_keep ∧ ∀ i', i' < rn_len a_length m → ∀ j', ky_CL a_length a_lends a_ops a_firsts a_seconds a_thirds a_need a_loan a_hands m b_keep i' j'
theorem ly_cg {n2 p2 k2' : Nat → Int32} (h : ∀ j, j < rn_len a_length m → n2 (16 * m + j) = b_need (16 * m + j) ∧ p2 (16 * m + j) = b_plans (16 * m + j) ∧ k2' (16 * m + j) = b_keep (16 * m + j)) (hM : ly_M a_length a_lends a_ops a_firsts a_seconds a_thirds a_need a_loan a_hands m b_need b_plans b_keep) : ly_M a_length a_lends a_ops a_firsts a_seconds a_thirds a_need a_loan a_hands m n2 p2 k2' := by
  obtain ⟨h1, h2, ⟨a1, a2, a3⟩, h4⟩ := hM
  refine ⟨fun j hj => (h j hj).1.trans (h1 j hj), fun j hj => (h j hj).2.1.trans (h2 j hj), ⟨fun j hj => ?_, fun K hK j hj => ?_, fun h0 => ?_⟩, fun i' hi' j' => ?_⟩
  · rw [(h j hj).2.2]; exact a1 j hj
  · rw [(h j hj).2.2]; exact a2 K hK j hj
  · have := (h 0 h0).2.2
    have e : k2' (16 * m) = b_keep (16 * m) := this
    rw [e]; exact a3 h0
  · intro q1 q2 q3
    rw [(h i' hi').2.2] at q1 ⊢
    rw [(h j' q3).2.2]
    exact h4 i' hi' j' q1 q2 q3
theorem ly_ex {j : Nat} (h : hd_P a_length a_lends a_ops a_firsts a_seconds a_thirds a_need m j) : ¬ ln_P a_length a_ops a_firsts a_seconds a_thirds a_need m j := by
  intro g
  obtain ⟨b, _, _, q⟩ := h
  rw [g.1] at q
  rcases q with q | q | q
  · exact absurd q.1 (by decide)
  · exact absurd q.1 (by decide)
  · exact absurd q.1 (by decide)
/-- Y: one method -/
theorem ly_m (hC : cd_C a_length a_ops a_firsts a_seconds a_thirds b_as b_bs) (hm : m < 4) (hN : nd_OK a_length a_ops a_firsts a_seconds a_thirds m a_need) (hS : ∀ j, j < rn_len a_length m → (a_loan (16 * m + j) ≠ 0 ↔ ln_P a_length a_ops a_firsts a_seconds a_thirds a_need m j) ∧ (a_hands (16 * m + j) ≠ 0 ↔ hd_P a_length a_lends a_ops a_firsts a_seconds a_thirds a_need m j)) :
    ∃ (b_need' b_plans' b_keep' : Nat → Int32), ly_M a_length a_lends a_ops a_firsts a_seconds a_thirds a_need a_loan a_hands m b_need' b_plans' b_keep' ∧ (∀ q, (q < 16 * m ∨ 16 * m + 16 ≤ q) → b_need' q = b_need q ∧ b_plans' q = b_plans q ∧ b_keep' q = b_keep q) ∧
      ∀ (post : SY → Prop) (J15 : Int32 → Int32 → Int32 → Int32 → Int32 → Int32 → Int32 → Int32 → Int32 → Int32 → Int32 → Int32 → Int32 → Int32 → (Nat → Int32) → (Nat → Int32) → (Nat → Int32) → (Nat → Int32) → (Nat → Int32) → (Nat → Int32) → (Nat → Int32) → (Nat → Int32) → (Nat → Int32) → (Nat → Int32) → (Nat → Int32) → (Nat → Int32) → (Nat → Int32) → (Nat → Int32) → (Nat → Int32) → (Nat → Int32) → (Nat → Int32) → (Nat → Int32) → (Nat → Int32) → (Nat → Int32) → Prop), J15 (nI (m + 1)) g_known g_made g_living g_counted g_less g_depth g_begun g_given g_outcome g_isShort g_ran g_put g_ended a_ops b_as b_bs a_thirds a_length a_lends b_need' b_plans' b_keep' b_value b_fields b_alive b_method b_pc b_variable b_loan b_outs b_ends b_todo b_phase → ∃ n25, wY_look_25 post J15 (nI m) g_known g_made g_living g_counted g_less g_depth g_begun g_given g_outcome g_isShort g_ran g_put g_ended n25 (nI (16 * m)) a_ops b_as b_bs a_thirds a_length a_lends b_need b_plans b_keep b_value b_fields b_alive b_method b_pc b_variable b_loan b_outs b_ends b_todo b_phase := by
  have hl := cd_len hC hm
  have cm : (nI m).toNatClampNeg = m := nI_clamp (by omega)
  have vm : vp_in (nI m) 4 := vp_in_nI (by omega) (by omega)
  have c16 : (nI (16 * m)).toNatClampNeg = 16 * m := nI_clamp (by omega)
  have v16 : vp_in (nI (16 * m)) 64 := vp_in_nI (by omega) (by omega)
  obtain ⟨b_need', n1, n2, n3⟩ := ly_25 (g_known := g_known) (g_made := g_made) (g_living := g_living) (g_counted := g_counted) (g_less := g_less) (g_depth := g_depth) (g_begun := g_begun) (g_given := g_given) (g_outcome := g_outcome) (g_isShort := g_isShort) (g_ran := g_ran) (g_put := g_put) (g_ended := g_ended) (b_plans := b_plans) (b_keep := b_keep) (b_value := b_value) (b_fields := b_fields) (b_alive := b_alive) (b_method := b_method) (b_pc := b_pc) (b_variable := b_variable) (b_loan := b_loan) (b_outs := b_outs) (b_ends := b_ends) (b_todo := b_todo) (b_phase := b_phase) hC hm (rn_len a_length m) 0 b_need (by omega)
  have hNe : ∀ j, j < rn_len a_length m → b_need' (16 * m + j) = a_need (16 * m + j) := fun j hj => by
    obtain ⟨q1, q2⟩ := n1 j (by omega) hj
    obtain ⟨p1, p2⟩ := hN j hj
    refine mk_ext q1 p1 (fun v hv => ?_)
    have := (q2 v hv).trans (p2 v hv).symm
    cases w1 : bt (b_need' (16 * m + j)) v
    · cases w2 : bt (a_need (16 * m + j)) v
      · rfl
      · rw [this.mpr w2] at w1; exact absurd w1 (by decide)
    · rw [this.mp w1]
  have hn6 : ∀ j, j < rn_len a_length m → mkL 6 (a_need (16 * m + j)) := fun j hj => (hN j hj).1
  obtain ⟨b_plans', kp1, p1, p2, p3⟩ := ly_99 (g_known := g_known) (g_made := g_made) (g_living := g_living) (g_counted := g_counted) (g_less := g_less) (g_depth := g_depth) (g_begun := g_begun) (g_given := g_given) (g_outcome := g_outcome) (g_isShort := g_isShort) (g_ran := g_ran) (g_put := g_put) (g_ended := g_ended) (b_need := b_need') (b_value := b_value) (b_fields := b_fields) (b_alive := b_alive) (b_method := b_method) (b_pc := b_pc) (b_variable := b_variable) (b_loan := b_loan) (b_outs := b_outs) (b_ends := b_ends) (b_todo := b_todo) (b_phase := b_phase) hC hm hNe (rn_len a_length m) 0 b_plans b_keep (by omega)
  have hpv : ∀ j, j < rn_len a_length m → b_plans' (16 * m + j) = if a_loan (16 * m + j) ≠ 0 then 1 else if a_hands (16 * m + j) ≠ 0 then 2 else 0 := fun j hj => by
    obtain ⟨w1, w2, w3⟩ := (p1 j (by omega) hj).1
    obtain ⟨s1, s2⟩ := hS j hj
    by_cases z1 : a_loan (16 * m + j) ≠ 0
    · rw [if_pos z1]; exact w1 (s1.mp z1)
    · rw [if_neg z1]
      have hnl := fun g => z1 (s1.mpr g)
      by_cases z2 : a_hands (16 * m + j) ≠ 0
      · rw [if_pos z2]; exact w2 hnl (s2.mp z2)
      · rw [if_neg z2]; exact w3 hnl (fun g => z2 (s2.mpr g))
  have hpl : ∀ j, j < rn_len a_length m → (b_plans' (16 * m + j) = 1 ↔ a_loan (16 * m + j) ≠ 0) ∧ (b_plans' (16 * m + j) = 2 ↔ a_hands (16 * m + j) ≠ 0) ∧ (a_loan (16 * m + j) ≠ 0 → a_ops (16 * m + j) = 3) ∧ (a_hands (16 * m + j) ≠ 0 → ∃ b, b < 6 ∧ a_seconds (16 * m + j) = nI b ∧ b_bs (16 * m + j) = nI b) := fun j hj => by
    obtain ⟨s1, s2⟩ := hS j hj
    have hv := hpv j hj
    refine ⟨?_, ?_, fun z => (s1.mp z).1, fun z => ?_⟩
    · rw [hv]
      by_cases z1 : a_loan (16 * m + j) ≠ 0
      · rw [if_pos z1]; exact ⟨fun _ => z1, fun _ => rfl⟩
      · rw [if_neg z1]
        by_cases z2 : a_hands (16 * m + j) ≠ 0
        · rw [if_pos z2]; exact ⟨fun q => absurd q (by decide), fun q => absurd q z1⟩
        · rw [if_neg z2]; exact ⟨fun q => absurd q (by decide), fun q => absurd q z1⟩
    · rw [hv]
      by_cases z1 : a_loan (16 * m + j) ≠ 0
      · rw [if_pos z1]
        exact ⟨fun q => absurd q (by decide), fun q => absurd (s1.mp z1) (ly_ex (s2.mp q))⟩
      · rw [if_neg z1]
        by_cases z2 : a_hands (16 * m + j) ≠ 0
        · rw [if_pos z2]; exact ⟨fun _ => z2, fun _ => rfl⟩
        · rw [if_neg z2]; exact ⟨fun q => absurd q (by decide), fun q => absurd q z2⟩
    · obtain ⟨b, hb, es, q⟩ := s2.mp z
      obtain ⟨o, ho, eo⟩ := cd_o hC (show 16 * m + j < 64 by omega)
      have hoo : o = 1 ∨ o = 3 ∨ o = 4 ∨ o = 11 := by
        rw [eo] at q
        rcases q with q | q | q
        · exact Or.inl (tl_inj (b := 1) q.1 (by omega) (by omega))
        · exact Or.inr (Or.inr (Or.inl (tl_inj (b := 4) q.1 (by omega) (by omega))))
        · exact Or.inr (Or.inr (Or.inr (tl_inj (b := 11) q.1 (by omega) (by omega))))
      obtain ⟨b', hb', es', et'⟩ := cd_b hC (show 16 * m + j < 64 by omega) eo ho hoo
      exact ⟨b', hb', es', et'⟩
  have hfrp : ∀ q, (q < 16 * m ∨ 16 * m + 16 ≤ q) → b_plans' q = b_plans q ∧ kp1 q = b_keep q := fun q hq => p2 q (by omega)
  by_cases h0 : 0 < rn_len a_length m
  · -- the first line's keeps
    obtain ⟨kv, hkv6, hkvb, hE⟩ : ∃ kv : Int32, mkL 6 kv ∧ (∀ v, bt kv v = true ↔ (v = 0 ∧ a_lends m = 0 ∧ bt (a_need (16 * m)) 0 = true)) ∧ ∀ (post : SY → Prop) (J15 : Int32 → Int32 → Int32 → Int32 → Int32 → Int32 → Int32 → Int32 → Int32 → Int32 → Int32 → Int32 → Int32 → Int32 → (Nat → Int32) → (Nat → Int32) → (Nat → Int32) → (Nat → Int32) → (Nat → Int32) → (Nat → Int32) → (Nat → Int32) → (Nat → Int32) → (Nat → Int32) → (Nat → Int32) → (Nat → Int32) → (Nat → Int32) → (Nat → Int32) → (Nat → Int32) → (Nat → Int32) → (Nat → Int32) → (Nat → Int32) → (Nat → Int32) → (Nat → Int32) → (Nat → Int32) → Prop), (∃ n214, wY_look_214 post J15 (nI m) n214 1 g_known g_made g_living g_counted g_less g_depth g_begun g_given g_outcome g_isShort g_ran g_put g_ended a_ops b_as b_bs a_thirds a_length a_lends b_need' b_plans' (upd kp1 (16 * m) kv) b_value b_fields b_alive b_method b_pc b_variable b_loan b_outs b_ends b_todo b_phase) → ly_E post J15 m g_known g_made g_living g_counted g_less g_depth g_begun g_given g_outcome g_isShort g_ran g_put g_ended a_ops b_as b_bs a_thirds a_length a_lends b_need' b_plans' kp1 b_value b_fields b_alive b_method b_pc b_variable b_loan b_outs b_ends b_todo b_phase := by
      have hsz : ¬ a_length m ≤ 0 := by rw [hl.2]; exact nI_nle h0 (by omega)
      by_cases hls : a_lends m = 0
      · have hbb : ∀ v, bt (b_need' (16 * m) &&& 1) v = true ↔ (v = 0 ∧ a_lends m = 0 ∧ bt (a_need (16 * m)) 0 = true) := fun v => by
          have e1 : bt (1 : Int32) v = decide (v = 0) := bt_one (k := 0) (by omega) v
          have e2 : b_need' (16 * m) = a_need (16 * m) := hNe 0 h0
          rw [b_and, Bool.and_eq_true, e1, decide_eq_true_iff, e2]
          constructor
          · intro ⟨q1, q2⟩
            subst q2
            exact ⟨rfl, hls, q1⟩
          · intro ⟨q1, _, q3⟩
            subst q1
            exact ⟨q3, rfl⟩
        refine ⟨b_need' (16 * m) &&& 1, fun v hv => ?_, hbb, fun post J15 h => ?_⟩
        · cases q : bt (b_need' (16 * m) &&& 1) v
          · rfl
          · have := ((hbb v).mp q).1
            omega
        · unfold ly_E
          rw [cm, tl_16a, c16]
          exact ⟨vm, br_f hsz ⟨vm, br_t hls ⟨v16, v16, nm_e h⟩⟩⟩
      · refine ⟨0, mk_0 6, fun v => ?_, fun post J15 h => ?_⟩
        · rw [b_0]
          exact ⟨fun q => absurd q (by decide), fun q => absurd q.2.1 hls⟩
        · unfold ly_E
          rw [cm, tl_16a, c16]
          exact ⟨vm, br_f hsz ⟨vm, br_f hls ⟨v16, nm_e h⟩⟩⟩
    have hk0 : (upd kp1 (16 * m) kv) (16 * m) = kv := tl_us
    have hkj : ∀ j, j ≠ 0 → j < rn_len a_length m → (upd kp1 (16 * m) kv) (16 * m + j) = -1 := fun j h1 h2 => by
      rw [tl_un (by omega)]; exact (p1 j (by omega) h2).2
    have hA : ky_A a_length a_lends a_ops a_firsts a_seconds a_thirds a_need a_loan a_hands m (upd kp1 (16 * m) kv) := by
      refine ⟨fun j hj => ?_, fun K hK j hj hne => ?_, fun _ => ?_⟩
      · by_cases z : j = 0
        · subst z
          exact Or.inr (by rw [Nat.add_zero, hk0]; exact hkv6)
        · exact Or.inl (hkj j z hj)
      · by_cases z : j = 0
        · subst z
          refine ⟨(hK.1 h0).1, fun v hv => ?_⟩
          rw [Nat.add_zero, hk0, hkvb] at hv
          obtain ⟨q1, q2, q3⟩ := hv
          subst q1
          exact (hK.1 h0).2 q2 q3
        · exact absurd (hkj j z hj) hne
      · rw [hk0]
        exact ⟨(ky_m1 hkv6).1, fun q1 q2 => (hkvb 0).mpr ⟨rfl, q1, q2⟩⟩
    obtain ⟨b_keep', k1, k2, k3, k4⟩ := yk_214 (g_known := g_known) (g_made := g_made) (g_living := g_living) (g_counted := g_counted) (g_less := g_less) (g_depth := g_depth) (g_begun := g_begun) (g_given := g_given) (g_outcome := g_outcome) (g_isShort := g_isShort) (g_ran := g_ran) (g_put := g_put) (g_ended := g_ended) (b_need := b_need') (b_plans := b_plans') (b_value := b_value) (b_fields := b_fields) (b_alive := b_alive) (b_method := b_method) (b_pc := b_pc) (b_variable := b_variable) (b_loan := b_loan) (b_outs := b_outs) (b_ends := b_ends) (b_todo := b_todo) (b_phase := b_phase) hC hm hNe hn6 hpl _ _ hA (Nat.le_refl _)
    refine ⟨b_need', b_plans', b_keep', ⟨hNe, hpv, k1, k2⟩, fun q hq => ⟨n2 q (by omega), (hfrp q hq).1, ?_⟩, fun post J15 h => ⟨_, n3 post J15 ⟨_, p3 post J15 (hE post J15 ⟨_, k4 post J15 _ (Nat.lt_succ_self _) h⟩)⟩⟩⟩
    rw [k3 q hq, tl_un (by omega), (hfrp q hq).2]
  · have hA : ky_A a_length a_lends a_ops a_firsts a_seconds a_thirds a_need a_loan a_hands m kp1 := ⟨fun j hj => by omega, fun K hK j hj => by omega, fun h => absurd h h0⟩
    obtain ⟨b_keep', k1, k2, k3, k4⟩ := yk_214 (g_known := g_known) (g_made := g_made) (g_living := g_living) (g_counted := g_counted) (g_less := g_less) (g_depth := g_depth) (g_begun := g_begun) (g_given := g_given) (g_outcome := g_outcome) (g_isShort := g_isShort) (g_ran := g_ran) (g_put := g_put) (g_ended := g_ended) (b_need := b_need') (b_plans := b_plans') (b_value := b_value) (b_fields := b_fields) (b_alive := b_alive) (b_method := b_method) (b_pc := b_pc) (b_variable := b_variable) (b_loan := b_loan) (b_outs := b_outs) (b_ends := b_ends) (b_todo := b_todo) (b_phase := b_phase) hC hm hNe hn6 hpl _ _ hA (Nat.le_refl _)
    refine ⟨b_need', b_plans', b_keep', ⟨hNe, hpv, k1, k2⟩, fun q hq => ⟨n2 q (by omega), (hfrp q hq).1, ?_⟩, fun post J15 h => ⟨_, n3 post J15 ⟨_, p3 post J15 ?_⟩⟩⟩
    · rw [k3 q hq, (hfrp q hq).2]
    · unfold ly_E
      rw [cm]
      refine ⟨vm, br_t ?_ ⟨_, k4 post J15 _ (Nat.lt_succ_self _) h⟩⟩
      rw [hl.2, tl_le0 (by omega)]
      omega
theorem ly_15 (hC : cd_C a_length a_ops a_firsts a_seconds a_thirds b_as b_bs) (hN : ∀ m, m < 4 → nd_OK a_length a_ops a_firsts a_seconds a_thirds m a_need) (hS : ∀ p, p < 64 → px_S a_length a_lends a_ops a_firsts a_seconds a_thirds a_need a_loan a_hands p) : ∀ (d c : Nat) (b_need b_plans b_keep : Nat → Int32), c + d = 4 → (∀ m, m < c → ly_M a_length a_lends a_ops a_firsts a_seconds a_thirds a_need a_loan a_hands m b_need b_plans b_keep) → ∃ (b_need' b_plans' b_keep' : Nat → Int32), (∀ m, m < 4 → ly_M a_length a_lends a_ops a_firsts a_seconds a_thirds a_need a_loan a_hands m b_need' b_plans' b_keep') ∧
    ∀ post : SY → Prop, post (g_known, g_made, g_living, g_counted, g_less, g_depth, g_begun, g_given, g_outcome, g_isShort, g_ran, g_put, g_ended, a_ops, b_as, b_bs, a_thirds, a_length, a_lends, b_need', b_plans', b_keep', b_value, b_fields, b_alive, b_method, b_pc, b_variable, b_loan, b_outs, b_ends, b_todo, b_phase) → wY_look_15 post (d + 1) (nI c) g_known g_made g_living g_counted g_less g_depth g_begun g_given g_outcome g_isShort g_ran g_put g_ended a_ops b_as b_bs a_thirds a_length a_lends b_need b_plans b_keep b_value b_fields b_alive b_method b_pc b_variable b_loan b_outs b_ends b_todo b_phase := by
  intro d
  induction d with
  | zero =>
    intro c b_need b_plans b_keep hc hO
    have e : c = 4 := by omega
    subst e
    refine ⟨b_need, b_plans, b_keep, hO, fun post h => ?_⟩
    rw [wY_look_15]
    exact br_t (by decide) h
  | succ d ih =>
    intro c b_need b_plans b_keep hc hO
    have hl := cd_len hC (show c < 4 by omega)
    obtain ⟨n1, p1, k1, h1, h2, h3⟩ := ly_m (g_known := g_known) (g_made := g_made) (g_living := g_living) (g_counted := g_counted) (g_less := g_less) (g_depth := g_depth) (g_begun := g_begun) (g_given := g_given) (g_outcome := g_outcome) (g_isShort := g_isShort) (g_ran := g_ran) (g_put := g_put) (g_ended := g_ended) (b_value := b_value) (b_fields := b_fields) (b_alive := b_alive) (b_method := b_method) (b_pc := b_pc) (b_variable := b_variable) (b_loan := b_loan) (b_outs := b_outs) (b_ends := b_ends) (b_todo := b_todo) (b_phase := b_phase) (b_need := b_need) (b_plans := b_plans) (b_keep := b_keep) (m := c) hC (by omega) (hN c (by omega)) (fun j hj => by
      have := hS (16 * c + j) (by omega)
      unfold px_S at this
      rw [show (16 * c + j) / 16 = c by omega, show (16 * c + j) % 16 = j by omega] at this
      exact this hj)
    obtain ⟨b_need', b_plans', b_keep', g1, g2⟩ := ih (c + 1) n1 p1 k1 (by omega) (fun m hm => by
      by_cases z : m = c
      · rw [z]; exact h1
      · have hl := (cd_len hC (show m < 4 by omega)).1
        exact ly_cg (fun j hj => h2 _ (by omega)) (hO m (by omega)))
    refine ⟨b_need', b_plans', b_keep', g1, fun post h => ?_⟩
    rw [wY_look_15]
    exact br_f (nI_ge (b := 4) (by omega) (by omega)) (nm_r (tl_16a c) (h3 post _ (g2 post h)))
end
end
section
section
variable {f_known f_depth f_brief f_outCount f_endCount f_ups f_downs f_steps f_made f_alive f_gift f_ended f_stopped : Int32} {a_length a_lends a_ops a_firsts a_seconds a_thirds a_need a_loan a_hands a_keeps a_come a_numbers a_ints a_counts a_fields a_ending a_stage a_fMethod a_fLine a_held a_lent a_outs a_ends : Nat → Int32}
variable {g_known g_made g_living g_counted g_less g_depth g_begun g_given g_outcome g_isShort g_ran g_put g_ended : Int32} {b_ops b_as b_bs b_cs b_size b_lent b_need b_plans b_keep b_value b_fields b_alive b_method b_pc b_variable b_loan b_outs b_ends b_todo b_phase : Nat → Int32}
variable {m i l k : Nat}
theorem pr_an (hC : cd_C a_length a_ops a_firsts a_seconds a_thirds b_as b_bs) (hN : ∀ m, m < 4 → nd_OK a_length a_ops a_firsts a_seconds a_thirds m a_need) (hS : ∀ p, p < 64 → px_S a_length a_lends a_ops a_firsts a_seconds a_thirds a_need a_loan a_hands p) (hX : ∀ m, m < 4 → kx_OK a_length a_lends a_ops a_firsts a_seconds a_thirds a_need a_loan a_hands m a_keeps a_come) (hY : ∀ m, m < 4 → ly_M a_length a_lends a_ops a_firsts a_seconds a_thirds a_need a_loan a_hands m b_need b_plans b_keep) : an_A a_length a_lends a_ops a_firsts a_seconds a_thirds a_need a_loan a_hands a_keeps a_come b_as b_bs b_need b_plans b_keep := by
  intro m i hm hi
  have hl := cd_len hC hm
  obtain ⟨y1, y2, y3, y4⟩ := hY m hm
  obtain ⟨n1, n2⟩ := hN m hm i hi
  have hSi := hS (16 * m + i) (by omega)
  unfold px_S at hSi
  rw [show (16 * m + i) / 16 = m by omega, show (16 * m + i) % 16 = i by omega] at hSi
  obtain ⟨s1, s2⟩ := hSi hi
  obtain ⟨k1, k2⟩ := ky_eq (hX m hm) y3 y4 hi
  obtain ⟨x1, x2, x3, x4⟩ := hX m hm
  have hget : a_ops (16 * m + i) = 3 → ∃ b : Nat, b < 6 ∧ a_seconds (16 * m + i) = nI b ∧ bt (a_need (16 * m + i)) b = true := fun e3 => by
    obtain ⟨b, hb, es, _⟩ := cd_b hC (show 16 * m + i < 64 by omega) (o := 3) e3 (by omega) (by omega)
    exact ⟨b, hb, es, (n2 b hb).mpr (nd_r hi (Or.inr ⟨Or.inr (Or.inl e3), es⟩))⟩
  have hhd : a_hands (16 * m + i) ≠ 0 → ∃ b : Nat, b < 6 ∧ a_seconds (16 * m + i) = nI b ∧ b_bs (16 * m + i) = nI b := fun z => by
    obtain ⟨b, hb, es, q⟩ := s2.mp z
    obtain ⟨o, ho, eo⟩ := cd_o hC (show 16 * m + i < 64 by omega)
    have hoo : o = 1 ∨ o = 3 ∨ o = 4 ∨ o = 11 := by
      rw [eo] at q
      rcases q with q | q | q
      · exact Or.inl (tl_inj (b := 1) q.1 (by omega) (by omega))
      · exact Or.inr (Or.inr (Or.inl (tl_inj (b := 4) q.1 (by omega) (by omega))))
      · exact Or.inr (Or.inr (Or.inr (tl_inj (b := 11) q.1 (by omega) (by omega))))
    exact cd_b hC (show 16 * m + i < 64 by omega) eo ho hoo
  refine ⟨y1 i hi, n1, y2 i hi, fun z => ⟨k1 z, x2 i hi z⟩, k2, ⟨x1 i hi, hhd⟩, hget, fun z => ?_⟩
  have hP := s1.mp z
  obtain ⟨e3, ne2, neab, hP4⟩ := hP
  obtain ⟨a, ha, ea, _⟩ := cd_a hC (show 16 * m + i < 64 by omega) (by rw [e3]; decide) (by rw [e3]; decide)
  obtain ⟨b, hb, es, hbn⟩ := hget e3
  have hab : a ≠ b := fun w => neab (by rw [ea, es, w])
  refine ⟨Classical.byContradiction (fun q => ly_ex (s2.mp q) (s1.mp z)), e3, ne2, a, b, fun j => j < rn_len a_length m ∧ bt (a_need (16 * m + j)) a = true ∧ ln_R a_length a_ops a_thirds a_need m a i j, ha, hb, ea, es, hab, fun j hQ => ?_, fun k hs hk hn => ⟨hk, hn, ln_1 hs hk hn⟩⟩
  obtain ⟨q1, q2, q3⟩ := hQ
  have hG := hP4 a ha ea j q3
  exact ⟨q1, q2, hG.2 b hbn (fun w => hab w.symm), hG.1, fun k hs hk hn => ⟨hk, hn, ln_2 q3 hs hk hn⟩⟩
theorem pr_j (hC : cd_C a_length a_ops a_firsts a_seconds a_thirds b_as b_bs) (hK : f_known ≠ 0 → an_A a_length a_lends a_ops a_firsts a_seconds a_thirds a_need a_loan a_hands a_keeps a_come b_as b_bs b_need b_plans b_keep) :
    ∃ (f_known' : Int32) (a_need' a_loan' a_hands' a_keeps' a_come' b_need' b_plans' b_keep' : Nat → Int32), f_known' ≠ 0 ∧ an_A a_length a_lends a_ops a_firsts a_seconds a_thirds a_need' a_loan' a_hands' a_keeps' a_come' b_as b_bs b_need' b_plans' b_keep' ∧ (∀ post : SX → Prop, post (f_known', f_depth, f_brief, f_outCount, f_endCount, f_ups, f_downs, f_steps, f_made, f_alive, f_gift, f_ended, f_stopped, a_length, a_lends, a_ops, a_firsts, a_seconds, a_thirds, a_need', a_loan', a_hands', a_keeps', a_come', a_numbers, a_ints, a_counts, a_fields, a_ending, a_stage, a_fMethod, a_fLine, a_held, a_lent, a_outs, a_ends) → wpX_prepare post (f_known, f_depth, f_brief, f_outCount, f_endCount, f_ups, f_downs, f_steps, f_made, f_alive, f_gift, f_ended, f_stopped, a_length, a_lends, a_ops, a_firsts, a_seconds, a_thirds, a_need, a_loan, a_hands, a_keeps, a_come, a_numbers, a_ints, a_counts, a_fields, a_ending, a_stage, a_fMethod, a_fLine, a_held, a_lent, a_outs, a_ends)) ∧
      (∀ post : SY → Prop, post (f_known', g_made, g_living, g_counted, g_less, g_depth, g_begun, g_given, g_outcome, g_isShort, g_ran, g_put, g_ended, a_ops, b_as, b_bs, a_thirds, a_length, a_lends, b_need', b_plans', b_keep', b_value, b_fields, b_alive, b_method, b_pc, b_variable, b_loan, b_outs, b_ends, b_todo, b_phase) → wpY_look post (f_known, g_made, g_living, g_counted, g_less, g_depth, g_begun, g_given, g_outcome, g_isShort, g_ran, g_put, g_ended, a_ops, b_as, b_bs, a_thirds, a_length, a_lends, b_need, b_plans, b_keep, b_value, b_fields, b_alive, b_method, b_pc, b_variable, b_loan, b_outs, b_ends, b_todo, b_phase)) := by
  by_cases hk : f_known = 0
  · obtain ⟨a_need', a_loan', a_hands', a_keeps', a_come', h1, h2, h3, h4⟩ := px_all (f_known := f_known) (f_depth := f_depth) (f_brief := f_brief) (f_outCount := f_outCount) (f_endCount := f_endCount) (f_ups := f_ups) (f_downs := f_downs) (f_steps := f_steps) (f_made := f_made) (f_alive := f_alive) (f_gift := f_gift) (f_ended := f_ended) (f_stopped := f_stopped) (a_length := a_length) (a_lends := a_lends) (a_ops := a_ops) (a_firsts := a_firsts) (a_seconds := a_seconds) (a_thirds := a_thirds) (a_need := a_need) (a_loan := a_loan) (a_hands := a_hands) (a_keeps := a_keeps) (a_come := a_come) (a_numbers := a_numbers) (a_ints := a_ints) (a_counts := a_counts) (a_fields := a_fields) (a_ending := a_ending) (a_stage := a_stage) (a_fMethod := a_fMethod) (a_fLine := a_fLine) (a_held := a_held) (a_lent := a_lent) (a_outs := a_outs) (a_ends := a_ends) hC hk
    obtain ⟨b_need', b_plans', b_keep', g1, g2⟩ := ly_15 (g_known := 1) (g_made := g_made) (g_living := g_living) (g_counted := g_counted) (g_less := g_less) (g_depth := g_depth) (g_begun := g_begun) (g_given := g_given) (g_outcome := g_outcome) (g_isShort := g_isShort) (g_ran := g_ran) (g_put := g_put) (g_ended := g_ended) (b_value := b_value) (b_fields := b_fields) (b_alive := b_alive) (b_method := b_method) (b_pc := b_pc) (b_variable := b_variable) (b_loan := b_loan) (b_outs := b_outs) (b_ends := b_ends) (b_todo := b_todo) (b_phase := b_phase) hC h1 h2 4 0 b_need b_plans b_keep rfl (fun m hm => by omega)
    exact ⟨1, a_need', a_loan', a_hands', a_keeps', a_come', b_need', b_plans', b_keep', tl_n1, pr_an hC h1 h2 h3 g1, h4, fun post hp => br_t hk ⟨5, g2 post hp⟩⟩
  · exact ⟨f_known, a_need, a_loan, a_hands, a_keeps, a_come, b_need, b_plans, b_keep, hk, hK hk, fun post hp => br_f hk hp, fun post hp => br_f hk hp⟩
end
end
section
section
variable {f_known f_depth f_brief f_outCount f_endCount f_ups f_downs f_steps f_made f_alive f_gift f_ended f_stopped : Int32} {a_length a_lends a_ops a_firsts a_seconds a_thirds a_need a_loan a_hands a_keeps a_come a_numbers a_ints a_counts a_fields a_ending a_stage a_fMethod a_fLine a_held a_lent a_outs a_ends : Nat → Int32}
variable {g_known g_made g_living g_counted g_less g_depth g_begun g_given g_outcome g_isShort g_ran g_put g_ended : Int32} {b_ops b_as b_bs b_cs b_size b_lent b_need b_plans b_keep b_value b_fields b_alive b_method b_pc b_variable b_loan b_outs b_ends b_todo b_phase : Nat → Int32}
variable {D M E L S O m i : Nat} {rc : Nat → Nat}
/-! the relation at the head of a turn -/
def i_Q (f_known f_depth f_outCount f_endCount f_made f_alive f_gift f_stopped g_given g_outcome g_ran : Int32) (a_length a_lends a_ops a_firsts a_seconds a_thirds a_need a_loan a_hands a_keeps a_come b_as b_bs b_need b_plans b_keep a_fMethod a_fLine a_numbers a_ints a_counts a_fields a_ending a_stage b_value b_fields b_alive b_todo b_phase b_variable b_loan : Nat → Int32) : Prop :=
  cd_C a_length a_ops a_firsts a_seconds a_thirds b_as b_bs ∧ (f_known ≠ 0 → an_A a_length a_lends a_ops a_firsts a_seconds a_thirds a_need a_loan a_hands a_keeps a_come b_as b_bs b_need b_plans b_keep) ∧
  ∃ M E L D O : Nat, f_made = nI M ∧ f_endCount = nI E ∧ f_alive = nI L ∧ f_depth = nI D ∧ f_outCount = nI O ∧ D ≤ 6 ∧ O ≤ 300 ∧ HR M E L 0 (hp_RC g_given b_variable b_loan D) a_numbers a_ints a_counts a_fields a_ending a_stage b_value b_fields b_alive b_todo b_phase ∧
    (g_outcome = 0 → f_gift = g_given) ∧ (g_outcome ≠ 0 → f_gift = 0) ∧ (g_ran = 0 ∨ g_outcome = 0 → f_stopped = -1) ∧ (g_ran ≠ 0 → g_outcome ≠ 0 → 1 ≤ D ∧ f_stopped = 16 * a_fMethod (D - 1) + a_fLine (D - 1))
def i_Fm (f_known f_depth f_brief f_outCount f_endCount f_ups f_downs f_steps f_made f_alive f_gift f_ended f_stopped : Int32) (a_length a_lends a_ops a_firsts a_seconds a_thirds a_need a_loan a_hands a_keeps a_come a_numbers a_ints a_counts a_fields a_ending a_stage a_fMethod a_fLine a_held a_lent a_outs a_ends : Nat → Int32) (g_known g_made g_living g_counted g_less g_depth g_begun g_given g_outcome g_isShort g_ran g_put g_ended : Int32) (b_ops b_as b_bs b_cs b_size b_lent b_need b_plans b_keep b_value b_fields b_alive b_method b_pc b_variable b_loan b_outs b_ends b_todo b_phase : Nat → Int32) : Prop :=
  g_known = f_known ∧ g_made = f_made ∧ g_living = f_alive ∧ g_counted = f_ups ∧ g_less = f_downs ∧ g_depth = f_depth ∧ g_begun = f_steps ∧ g_put = f_outCount ∧ g_ended = f_endCount ∧
  b_ops = a_ops ∧ b_cs = a_thirds ∧ b_size = a_length ∧ b_lent = a_lends ∧ b_method = a_fMethod ∧ b_pc = a_fLine ∧ b_outs = a_outs ∧ b_ends = a_ends ∧ i_Q f_known f_depth f_outCount f_endCount f_made f_alive f_gift f_stopped g_given g_outcome g_ran a_length a_lends a_ops a_firsts a_seconds a_thirds a_need a_loan a_hands a_keeps a_come b_as b_bs b_need b_plans b_keep a_fMethod a_fLine a_numbers a_ints a_counts a_fields a_ending a_stage b_value b_fields b_alive b_todo b_phase b_variable b_loan
def i_R (u : SX) (v : SY) : Prop := match u, v with | (f_known, f_depth, f_brief, f_outCount, f_endCount, f_ups, f_downs, f_steps, f_made, f_alive, f_gift, f_ended, f_stopped, a_length, a_lends, a_ops, a_firsts, a_seconds, a_thirds, a_need, a_loan, a_hands, a_keeps, a_come, a_numbers, a_ints, a_counts, a_fields, a_ending, a_stage, a_fMethod, a_fLine, a_held, a_lent, a_outs, a_ends), (g_known, g_made, g_living, g_counted, g_less, g_depth, g_begun, g_given, g_outcome, g_isShort, g_ran, g_put, g_ended, b_ops, b_as, b_bs, b_cs, b_size, b_lent, b_need, b_plans, b_keep, b_value, b_fields, b_alive, b_method, b_pc, b_variable, b_loan, b_outs, b_ends, b_todo, b_phase) => i_Fm f_known f_depth f_brief f_outCount f_endCount f_ups f_downs f_steps f_made f_alive f_gift f_ended f_stopped a_length a_lends a_ops a_firsts a_seconds a_thirds a_need a_loan a_hands a_keeps a_come a_numbers a_ints a_counts a_fields a_ending a_stage a_fMethod a_fLine a_held a_lent a_outs a_ends g_known g_made g_living g_counted g_less g_depth g_begun g_given g_outcome g_isShort g_ran g_put g_ended b_ops b_as b_bs b_cs b_size b_lent b_need b_plans b_keep b_value b_fields b_alive b_method b_pc b_variable b_loan b_outs b_ends b_todo b_phase
theorem i_in (h : i_Q f_known f_depth f_outCount f_endCount f_made f_alive f_gift f_stopped g_given g_outcome g_ran a_length a_lends a_ops a_firsts a_seconds a_thirds a_need a_loan a_hands a_keeps a_come b_as b_bs b_need b_plans b_keep a_fMethod a_fLine a_numbers a_ints a_counts a_fields a_ending a_stage b_value b_fields b_alive b_todo b_phase b_variable b_loan) : i_R (f_known, f_depth, f_brief, f_outCount, f_endCount, f_ups, f_downs, f_steps, f_made, f_alive, f_gift, f_ended, f_stopped, a_length, a_lends, a_ops, a_firsts, a_seconds, a_thirds, a_need, a_loan, a_hands, a_keeps, a_come, a_numbers, a_ints, a_counts, a_fields, a_ending, a_stage, a_fMethod, a_fLine, a_held, a_lent, a_outs, a_ends) (f_known, f_made, f_alive, f_ups, f_downs, f_depth, f_steps, g_given, g_outcome, g_isShort, g_ran, f_outCount, f_endCount, a_ops, b_as, b_bs, a_thirds, a_length, a_lends, b_need, b_plans, b_keep, b_value, b_fields, b_alive, a_fMethod, a_fLine, b_variable, b_loan, a_outs, a_ends, b_todo, b_phase) := ⟨rfl, rfl, rfl, rfl, rfl, rfl, rfl, rfl, rfl, rfl, rfl, rfl, rfl, rfl, rfl, rfl, rfl, h⟩
theorem i_el0 {P : SX → SY → Prop} (h : ∀ (f_known f_depth f_brief f_outCount f_endCount f_ups f_downs f_steps f_made f_alive f_gift f_ended f_stopped : Int32) (a_length a_lends a_ops a_firsts a_seconds a_thirds a_need a_loan a_hands a_keeps a_come a_numbers a_ints a_counts a_fields a_ending a_stage a_fMethod a_fLine a_held a_lent a_outs a_ends : Nat → Int32) (g_known g_made g_living g_counted g_less g_depth g_begun g_given g_outcome g_isShort g_ran g_put g_ended : Int32) (b_ops b_as b_bs b_cs b_size b_lent b_need b_plans b_keep b_value b_fields b_alive b_method b_pc b_variable b_loan b_outs b_ends b_todo b_phase : Nat → Int32), i_Fm f_known f_depth f_brief f_outCount f_endCount f_ups f_downs f_steps f_made f_alive f_gift f_ended f_stopped a_length a_lends a_ops a_firsts a_seconds a_thirds a_need a_loan a_hands a_keeps a_come a_numbers a_ints a_counts a_fields a_ending a_stage a_fMethod a_fLine a_held a_lent a_outs a_ends g_known g_made g_living g_counted g_less g_depth g_begun g_given g_outcome g_isShort g_ran g_put g_ended b_ops b_as b_bs b_cs b_size b_lent b_need b_plans b_keep b_value b_fields b_alive b_method b_pc b_variable b_loan b_outs b_ends b_todo b_phase → P (f_known, f_depth, f_brief, f_outCount, f_endCount, f_ups, f_downs, f_steps, f_made, f_alive, f_gift, f_ended, f_stopped, a_length, a_lends, a_ops, a_firsts, a_seconds, a_thirds, a_need, a_loan, a_hands, a_keeps, a_come, a_numbers, a_ints, a_counts, a_fields, a_ending, a_stage, a_fMethod, a_fLine, a_held, a_lent, a_outs, a_ends) (g_known, g_made, g_living, g_counted, g_less, g_depth, g_begun, g_given, g_outcome, g_isShort, g_ran, g_put, g_ended, b_ops, b_as, b_bs, b_cs, b_size, b_lent, b_need, b_plans, b_keep, b_value, b_fields, b_alive, b_method, b_pc, b_variable, b_loan, b_outs, b_ends, b_todo, b_phase)) (u : SX) (v : SY) (I : i_R u v) : P u v := by
  obtain ⟨f_known, f_depth, f_brief, f_outCount, f_endCount, f_ups, f_downs, f_steps, f_made, f_alive, f_gift, f_ended, f_stopped, a_length, a_lends, a_ops, a_firsts, a_seconds, a_thirds, a_need, a_loan, a_hands, a_keeps, a_come, a_numbers, a_ints, a_counts, a_fields, a_ending, a_stage, a_fMethod, a_fLine, a_held, a_lent, a_outs, a_ends⟩ := u
  obtain ⟨g_known, g_made, g_living, g_counted, g_less, g_depth, g_begun, g_given, g_outcome, g_isShort, g_ran, g_put, g_ended, b_ops, b_as, b_bs, b_cs, b_size, b_lent, b_need, b_plans, b_keep, b_value, b_fields, b_alive, b_method, b_pc, b_variable, b_loan, b_outs, b_ends, b_todo, b_phase⟩ := v
  exact h f_known f_depth f_brief f_outCount f_endCount f_ups f_downs f_steps f_made f_alive f_gift f_ended f_stopped a_length a_lends a_ops a_firsts a_seconds a_thirds a_need a_loan a_hands a_keeps a_come a_numbers a_ints a_counts a_fields a_ending a_stage a_fMethod a_fLine a_held a_lent a_outs a_ends g_known g_made g_living g_counted g_less g_depth g_begun g_given g_outcome g_isShort g_ran g_put g_ended b_ops b_as b_bs b_cs b_size b_lent b_need b_plans b_keep b_value b_fields b_alive b_method b_pc b_variable b_loan b_outs b_ends b_todo b_phase I
theorem i_el {P : SX → SY → Prop} (h : ∀ (f_known f_depth f_brief f_outCount f_endCount f_ups f_downs f_steps f_made f_alive f_gift f_ended f_stopped : Int32) (a_length a_lends a_ops a_firsts a_seconds a_thirds a_need a_loan a_hands a_keeps a_come a_numbers a_ints a_counts a_fields a_ending a_stage a_fMethod a_fLine a_held a_lent a_outs a_ends : Nat → Int32) (g_given g_outcome g_isShort g_ran : Int32) (b_as b_bs b_need b_plans b_keep b_value b_fields b_alive b_variable b_loan b_todo b_phase : Nat → Int32), i_Q f_known f_depth f_outCount f_endCount f_made f_alive f_gift f_stopped g_given g_outcome g_ran a_length a_lends a_ops a_firsts a_seconds a_thirds a_need a_loan a_hands a_keeps a_come b_as b_bs b_need b_plans b_keep a_fMethod a_fLine a_numbers a_ints a_counts a_fields a_ending a_stage b_value b_fields b_alive b_todo b_phase b_variable b_loan → P (f_known, f_depth, f_brief, f_outCount, f_endCount, f_ups, f_downs, f_steps, f_made, f_alive, f_gift, f_ended, f_stopped, a_length, a_lends, a_ops, a_firsts, a_seconds, a_thirds, a_need, a_loan, a_hands, a_keeps, a_come, a_numbers, a_ints, a_counts, a_fields, a_ending, a_stage, a_fMethod, a_fLine, a_held, a_lent, a_outs, a_ends) (f_known, f_made, f_alive, f_ups, f_downs, f_depth, f_steps, g_given, g_outcome, g_isShort, g_ran, f_outCount, f_endCount, a_ops, b_as, b_bs, a_thirds, a_length, a_lends, b_need, b_plans, b_keep, b_value, b_fields, b_alive, a_fMethod, a_fLine, b_variable, b_loan, a_outs, a_ends, b_todo, b_phase)) {u : SX} {v : SY} (I : i_R u v) : P u v := by
  refine i_el0 (P := P) ?_ u v I
  intro f_known f_depth f_brief f_outCount f_endCount f_ups f_downs f_steps f_made f_alive f_gift f_ended f_stopped a_length a_lends a_ops a_firsts a_seconds a_thirds a_need a_loan a_hands a_keeps a_come a_numbers a_ints a_counts a_fields a_ending a_stage a_fMethod a_fLine a_held a_lent a_outs a_ends g_known g_made g_living g_counted g_less g_depth g_begun g_given g_outcome g_isShort g_ran g_put g_ended b_ops b_as b_bs b_cs b_size b_lent b_need b_plans b_keep b_value b_fields b_alive b_method b_pc b_variable b_loan b_outs b_ends b_todo b_phase hF
  obtain ⟨e1, e2, e3, e4, e5, e6, e7, e8, e9, e10, e11, e12, e13, e14, e15, e16, e17, hQ⟩ := hF
  subst e1 e2 e3 e4 e5 e6 e7 e8 e9 e10 e11 e12 e13 e14 e15 e16 e17
  exact h _ _ _ _ _ _ _ _ _ _ _ _ _ _ _ _ _ _ _ _ _ _ _ _ _ _ _ _ _ _ _ _ _ _ _ _ _ _ _ _ _ _ _ _ _ _ _ _ _ _ _ _ hQ
end
end
section
section
variable {f_known f_depth f_brief f_outCount f_endCount f_ups f_downs f_steps f_made f_alive f_gift f_ended f_stopped : Int32} {a_length a_lends a_ops a_firsts a_seconds a_thirds a_need a_loan a_hands a_keeps a_come a_numbers a_ints a_counts a_fields a_ending a_stage a_fMethod a_fLine a_held a_lent a_outs a_ends : Nat → Int32}
variable {g_known g_made g_living g_counted g_less g_depth g_begun g_given g_outcome g_isShort g_ran g_put g_ended : Int32} {b_ops b_as b_bs b_cs b_size b_lent b_need b_plans b_keep b_value b_fields b_alive b_method b_pc b_variable b_loan b_outs b_ends b_todo b_phase : Nat → Int32}
variable {D M E L S O m i : Nat} {rc : Nat → Nat}
def fg_n (f : Nat → Int32) : Nat → Int32 := fun j => if j < 24 then 0 else f j
theorem fg_2 {post : SX → Prop} (h : post (f_known, 0, f_brief, 0, 0, 0, 0, 0, 0, 0, 0, f_ended, -1, a_length, a_lends, a_ops, a_firsts, a_seconds, a_thirds, a_need, a_loan, a_hands, a_keeps, a_come, fg_n a_numbers, a_ints, a_counts, a_fields, a_ending, a_stage, a_fMethod, a_fLine, a_held, a_lent, a_outs, a_ends)) : ∀ d k (n2 : Nat → Int32), k + d = 24 → (∀ j, (if k ≤ j ∧ j < 24 then 0 else n2 j) = fg_n a_numbers j) → wX_forget_2 post f_known f_depth f_brief f_outCount f_endCount f_ups f_downs f_steps f_made f_alive f_gift f_ended f_stopped (d + 1) (nI k) a_length a_lends a_ops a_firsts a_seconds a_thirds a_need a_loan a_hands a_keeps a_come n2 a_ints a_counts a_fields a_ending a_stage a_fMethod a_fLine a_held a_lent a_outs a_ends := by
  intro d
  induction d with
  | zero =>
    intro k n2 hk hs
    have e : k = 24 := by omega
    subst e
    have en : n2 = fg_n a_numbers := by
      funext j
      rw [← hs j, if_neg (by omega)]
    rw [wX_forget_2, en]
    exact br_t (by decide) h
  | succ d ih =>
    intro k n2 hk hs
    have c : (nI k).toNatClampNeg = k := nI_clamp (by omega)
    rw [wX_forget_2]
    refine br_f (nI_ge (b := 24) (by omega) (by omega)) ?_
    rw [c]
    refine ⟨vp_in_nI (by omega) (by omega), nm_e (nm_r (nI_1 k) (ih (k + 1) _ (by omega) (fun j => ?_)))⟩
    rw [← hs j]
    by_cases z : j = k
    · rw [z, tl_us, if_neg (by omega), if_pos (by omega)]
    · rw [tl_un z]
      by_cases z2 : k ≤ j ∧ j < 24
      · rw [if_pos z2, if_pos (by omega)]
      · rw [if_neg z2, if_neg (by omega)]
theorem fg_x {post : SX → Prop} (h : post (f_known, 0, f_brief, 0, 0, 0, 0, 0, 0, 0, 0, f_ended, -1, a_length, a_lends, a_ops, a_firsts, a_seconds, a_thirds, a_need, a_loan, a_hands, a_keeps, a_come, fg_n a_numbers, a_ints, a_counts, a_fields, a_ending, a_stage, a_fMethod, a_fLine, a_held, a_lent, a_outs, a_ends)) : wpX_forget post (f_known, f_depth, f_brief, f_outCount, f_endCount, f_ups, f_downs, f_steps, f_made, f_alive, f_gift, f_ended, f_stopped, a_length, a_lends, a_ops, a_firsts, a_seconds, a_thirds, a_need, a_loan, a_hands, a_keeps, a_come, a_numbers, a_ints, a_counts, a_fields, a_ending, a_stage, a_fMethod, a_fLine, a_held, a_lent, a_outs, a_ends) :=
  ⟨25, fg_2 h 24 0 a_numbers (by omega) (fun j => by unfold fg_n; by_cases z : j < 24; rw [if_pos (by omega), if_pos z]; rw [if_neg (by omega), if_neg z])⟩
def rn_xr (post : Int32 → SX → Prop) (n : Nat) (u : SX) : Prop := match u with | (f_known, f_depth, f_brief, f_outCount, f_endCount, f_ups, f_downs, f_steps, f_made, f_alive, f_gift, f_ended, f_stopped, a_length, a_lends, a_ops, a_firsts, a_seconds, a_thirds, a_need, a_loan, a_hands, a_keeps, a_come, a_numbers, a_ints, a_counts, a_fields, a_ending, a_stage, a_fMethod, a_fLine, a_held, a_lent, a_outs, a_ends) => wX_run_72 post n f_known f_depth f_brief f_outCount f_endCount f_ups f_downs f_steps f_made f_alive f_gift f_ended f_stopped a_length a_lends a_ops a_firsts a_seconds a_thirds a_need a_loan a_hands a_keeps a_come a_numbers a_ints a_counts a_fields a_ending a_stage a_fMethod a_fLine a_held a_lent a_outs a_ends
set_option maxHeartbeats 2000000 in
/-- the runs -/
theorem rn_loop (hk : f_known ≠ 0) (hr : g_ran ≠ 0) (hC : cd_C a_length a_ops a_firsts a_seconds a_thirds b_as b_bs) (hA : an_A a_length a_lends a_ops a_firsts a_seconds a_thirds a_need a_loan a_hands a_keeps a_come b_as b_bs b_need b_plans b_keep) : ∀ (μ : Nat) (D M E L S O m i : Nat) (f_ups f_downs : Int32) (a_numbers a_ints a_counts a_fields a_ending a_stage a_fMethod a_fLine a_held a_lent a_outs a_ends b_value b_fields b_alive b_variable b_loan b_todo b_phase : Nat → Int32), rn_F0 f_brief a_length a_ops a_thirds a_need D M E L S O m i a_numbers a_ints a_counts a_fields a_ending a_stage a_fMethod a_fLine a_held a_lent b_value b_fields b_alive b_variable b_loan b_todo b_phase → 8 * (300 - S) + D ≤ μ →
    ∃ (r : Int32) (u' : SX) (v' : SY) (u : SX), i_R u' v' ∧ (∀ post : SX → Prop, post u → wpX_drop post (f_known, nI D, f_brief, nI O, nI E, f_ups, f_downs, nI S, nI M, nI L, 0, (-1), (-1), a_length, a_lends, a_ops, a_firsts, a_seconds, a_thirds, a_need, a_loan, a_hands, a_keeps, a_come, a_numbers, a_ints, a_counts, a_fields, a_ending, a_stage, a_fMethod, a_fLine, a_held, a_lent, a_outs, a_ends)) ∧ (∀ (post : Int32 → SX → Prop) n, μ + 1 < n → post r u' → rn_xr post n u) ∧ (∀ (post : Int32 → SY → Prop) n, μ + 1 < n → post r v' → wY_run_94 post n f_known (nI M) (nI L) f_ups f_downs (nI D) (nI S) 0 (-1) f_brief g_ran (nI O) (nI E) a_ops b_as b_bs a_thirds a_length a_lends b_need b_plans b_keep b_value b_fields b_alive a_fMethod a_fLine b_variable b_loan a_outs a_ends b_todo b_phase) := by
  intro μ
  induction μ with
  | zero =>
    intro D M E L S O m i f_ups f_downs a_numbers a_ints a_counts a_fields a_ending a_stage a_fMethod a_fLine a_held a_lent a_outs a_ends b_value b_fields b_alive b_variable b_loan b_todo b_phase F hm
    have := F.1
    omega
  | succ μ ih =>
    intro D M E L S O m i f_ups f_downs a_numbers a_ints a_counts a_fields a_ending a_stage a_fMethod a_fLine a_held a_lent a_outs a_ends b_value b_fields b_alive b_variable b_loan b_todo b_phase F hm
    obtain ⟨E', L', f_downs', a_numbers', a_counts', a_fields', a_ending', a_stage', a_ends', b_fields', b_alive', b_todo', b_phase', a_held', a_lent', b_variable', b_loan', F2, NB2, hXd, hYd⟩ := rn_drop hC hA F
    have hS3 := F.2.2.2.2.1
    rcases st_next F2 NB2 hC hA with ⟨D1, M1, E1, L1, S1, O1, m1, i1, f_ups1, f_downs1, a_numbers1, a_ints1, a_counts1, a_fields1, a_ending1, a_stage1, a_fMethod1, a_fLine1, a_held1, a_lent1, a_outs1, a_ends1, b_value1, b_fields1, b_alive1, b_variable1, b_loan1, b_todo1, b_phase1, F1, hm1, hX1, hY1⟩ | ⟨r, D1, M1, E1, L1, S1, O1, m1, i1, f_ups1, f_downs1, a_numbers1, a_ints1, a_counts1, a_fields1, a_ending1, a_stage1, a_fMethod1, a_fLine1, a_held1, a_lent1, a_outs1, a_ends1, b_value1, b_fields1, b_alive1, b_variable1, b_loan1, b_todo1, b_phase1, hr12, F1, hX1, hY1⟩ | ⟨g, D1, M1, E1, L1, S1, O1, m1, i1, f_ups1, f_downs1, a_numbers1, a_ints1, a_counts1, a_fields1, a_ending1, a_stage1, a_fMethod1, a_fLine1, a_held1, a_lent1, a_outs1, a_ends1, b_value1, b_fields1, b_alive1, b_variable1, b_loan1, b_todo1, b_phase1, ⟨H1, hMS1, hOS1, hS1⟩, hX1, hY1⟩
    · have hS1 := F1.2.2.2.2.1
      obtain ⟨r, u', v', u1, hR, hd1, hXr, hYr⟩ := ih D1 M1 E1 L1 S1 O1 m1 i1 f_ups1 f_downs1 a_numbers1 a_ints1 a_counts1 a_fields1 a_ending1 a_stage1 a_fMethod1 a_fLine1 a_held1 a_lent1 a_outs1 a_ends1 b_value1 b_fields1 b_alive1 b_variable1 b_loan1 b_todo1 b_phase1 F1 (by omega)
      refine ⟨r, u', v', _, hR, hXd, fun post n hn hp => ?_, fun post n hn hp => ?_⟩
      · obtain ⟨n', rfl⟩ : ∃ n', n = n' + 1 := ⟨n - 1, by omega⟩
        unfold rn_xr
        dsimp only
        rw [wX_run_72]
        exact br_t rfl (hX1 u1 hd1 _ (hXr post n' (by omega) hp))
      · obtain ⟨n', rfl⟩ : ∃ n', n = n' + 1 := ⟨n - 1, by omega⟩
        rw [wY_run_94]
        exact br_t rfl (hYd _ (hY1 _ (hYr post n' (by omega) hp)))
    · have hr0 : ¬ r = -1 := by rcases hr12 with rfl | rfl <;> decide
      have hr1 : ¬ r = 0 := by rcases hr12 with rfl | rfl <;> decide
      have F1' := F1
      obtain ⟨hD1, hD6, hMS, hOS, hS', hm', hi', eM, eL, hfr, H, V, LS⟩ := F1'
      have ed : nI D1 - 1 = nI (D1 - 1) := tl_pred hD1
      have cd : (nI (D1 - 1)).toNatClampNeg = D1 - 1 := nI_clamp (by omega)
      have vd : vp_in (nI (D1 - 1)) 6 := vp_in_nI (by omega) (by omega)
      refine ⟨r, (f_known, nI D1, f_brief, nI O1, nI E1, f_ups1, f_downs1, nI S1, nI M1, nI L1, 0, r, 16 * a_fMethod1 (D1 - 1) + a_fLine1 (D1 - 1), a_length, a_lends, a_ops, a_firsts, a_seconds, a_thirds, a_need, a_loan, a_hands, a_keeps, a_come, a_numbers1, a_ints1, a_counts1, a_fields1, a_ending1, a_stage1, a_fMethod1, a_fLine1, a_held1, a_lent1, a_outs1, a_ends1), (f_known, nI M1, nI L1, f_ups1, f_downs1, nI D1, nI S1, 0, r, f_brief, g_ran, nI O1, nI E1, a_ops, b_as, b_bs, a_thirds, a_length, a_lends, b_need, b_plans, b_keep, b_value1, b_fields1, b_alive1, a_fMethod1, a_fLine1, b_variable1, b_loan1, a_outs1, a_ends1, b_todo1, b_phase1), _, i_in ⟨hC, fun _ => hA, M1, E1, L1, D1, O1, rfl, rfl, rfl, rfl, rfl, hD6, by omega, H, fun z => absurd z hr1, fun _ => rfl, fun z => ?_, fun _ _ => ⟨hD1, rfl⟩⟩, hXd, fun post n hn hp => ?_, fun post n hn hp => ?_⟩
      · rcases z with z | z
        · exact absurd z hr
        · exact absurd z hr1
      · obtain ⟨n', rfl⟩ : ∃ n', n = n' + 1 + 1 := ⟨n - 2, by omega⟩
        unfold rn_xr
        dsimp only
        rw [wX_run_72]
        refine br_t rfl (hX1 _ ?_)
        dsimp only
        rw [wX_run_72]
        refine br_f hr0 (br_f hr1 ?_)
        rw [ed, cd]
        exact ⟨vd, vd, nm_e hp⟩
      · obtain ⟨n', rfl⟩ : ∃ n', n = n' + 1 + 1 := ⟨n - 2, by omega⟩
        rw [wY_run_94]
        refine br_t rfl (hYd _ (hY1 _ ?_))
        dsimp only
        rw [wY_run_94]
        exact br_f hr0 hp
    · refine ⟨0, (f_known, 0, f_brief, nI O1, nI E1, f_ups1, f_downs1, nI S1, nI M1, nI L1, g, 0, (-1), a_length, a_lends, a_ops, a_firsts, a_seconds, a_thirds, a_need, a_loan, a_hands, a_keeps, a_come, a_numbers1, a_ints1, a_counts1, a_fields1, a_ending1, a_stage1, a_fMethod1, a_fLine1, a_held1, a_lent1, a_outs1, a_ends1), (f_known, nI M1, nI L1, f_ups1, f_downs1, 0, nI S1, g, 0, f_brief, g_ran, nI O1, nI E1, a_ops, b_as, b_bs, a_thirds, a_length, a_lends, b_need, b_plans, b_keep, b_value1, b_fields1, b_alive1, a_fMethod1, a_fLine1, b_variable1, b_loan1, a_outs1, a_ends1, b_todo1, b_phase1), _, i_in ⟨hC, fun _ => hA, M1, E1, L1, 0, O1, rfl, rfl, rfl, rfl, rfl, by omega, by omega, H1, fun _ => rfl, fun z => absurd rfl z, fun _ => rfl, fun _ z => absurd rfl z⟩, hXd, fun post n hn hp => ?_, fun post n hn hp => ?_⟩
      · obtain ⟨n', rfl⟩ : ∃ n', n = n' + 1 + 1 := ⟨n - 2, by omega⟩
        unfold rn_xr
        dsimp only
        rw [wX_run_72]
        refine br_t rfl (hX1 _ ?_)
        dsimp only
        rw [wX_run_72]
        exact br_f (by decide) (br_t rfl hp)
      · obtain ⟨n', rfl⟩ : ∃ n', n = n' + 1 + 1 := ⟨n - 2, by omega⟩
        rw [wY_run_94]
        refine br_t rfl (hYd _ (hY1 _ ?_))
        dsimp only
        rw [wY_run_94]
        exact br_f (by decide) hp
/-- a run of a method that is there -/
theorem rn_run {c : Nat} {p0 : Int32} (hp0 : p0 = 0 ∨ p0 = 1) (hc : c < 4) (Q : i_Q f_known f_depth f_outCount f_endCount f_made f_alive f_gift f_stopped g_given g_outcome g_ran a_length a_lends a_ops a_firsts a_seconds a_thirds a_need a_loan a_hands a_keeps a_come b_as b_bs b_need b_plans b_keep a_fMethod a_fLine a_numbers a_ints a_counts a_fields a_ending a_stage b_value b_fields b_alive b_todo b_phase b_variable b_loan) : ∃ (r : Int32) (u' : SX) (v' : SY), i_R u' v' ∧
    (∀ post : Int32 → SX → Prop, post r u' → wpX_run post (f_known, f_depth, f_brief, f_outCount, f_endCount, f_ups, f_downs, f_steps, f_made, f_alive, f_gift, f_ended, f_stopped, a_length, a_lends, a_ops, a_firsts, a_seconds, a_thirds, a_need, a_loan, a_hands, a_keeps, a_come, a_numbers, a_ints, a_counts, a_fields, a_ending, a_stage, a_fMethod, a_fLine, a_held, a_lent, a_outs, a_ends) p0 (nI c)) ∧ (∀ post : Int32 → SY → Prop, post r v' → wpY_run post (f_known, f_made, f_alive, f_ups, f_downs, f_depth, f_steps, g_given, g_outcome, g_isShort, g_ran, f_outCount, f_endCount, a_ops, b_as, b_bs, a_thirds, a_length, a_lends, b_need, b_plans, b_keep, b_value, b_fields, b_alive, a_fMethod, a_fLine, b_variable, b_loan, a_outs, a_ends, b_todo, b_phase) p0 (nI c)) := by
  obtain ⟨hC, hK, _⟩ := Q
  obtain ⟨nb1, nb2⟩ := rn_b01 hp0
  obtain ⟨f_known', a_need', a_loan', a_hands', a_keeps', a_come', b_need', b_plans', b_keep', hk', hA', hXp, hYp⟩ := pr_j (f_known := f_known) (f_depth := f_depth) (f_brief := f_brief) (f_outCount := f_outCount) (f_endCount := f_endCount) (f_ups := f_ups) (f_downs := f_downs) (f_steps := f_steps) (f_made := f_made) (f_alive := f_alive) (f_gift := f_gift) (f_ended := f_ended) (f_stopped := f_stopped) (a_length := a_length) (a_lends := a_lends) (a_ops := a_ops) (a_firsts := a_firsts) (a_seconds := a_seconds) (a_thirds := a_thirds) (a_need := a_need) (a_loan := a_loan) (a_hands := a_hands) (a_keeps := a_keeps) (a_come := a_come) (a_numbers := a_numbers) (a_ints := a_ints) (a_counts := a_counts) (a_fields := a_fields) (a_ending := a_ending) (a_stage := a_stage) (a_fMethod := a_fMethod) (a_fLine := a_fLine) (a_held := a_held) (a_lent := a_lent) (a_outs := a_outs) (a_ends := a_ends) (g_made := f_made) (g_living := f_alive) (g_counted := f_ups) (g_less := f_downs) (g_depth := f_depth) (g_begun := f_steps) (g_given := g_given) (g_outcome := g_outcome) (g_isShort := g_isShort) (g_ran := g_ran) (g_put := f_outCount) (g_ended := f_endCount) (b_as := b_as) (b_bs := b_bs) (b_need := b_need) (b_plans := b_plans) (b_keep := b_keep) (b_value := b_value) (b_fields := b_fields) (b_alive := b_alive) (b_method := a_fMethod) (b_pc := a_fLine) (b_variable := b_variable) (b_loan := b_loan) (b_outs := a_outs) (b_ends := a_ends) (b_todo := b_todo) (b_phase := b_phase) hC hK
  have cc : (nI c).toNatClampNeg = c := nI_clamp (by omega)
  have vc : vp_in (nI c) 4 := vp_in_nI (by omega) (by omega)
  have hl := cd_len hC hc
  have hin : ∀ post : Int32 → Prop, post 1 → wpX_in post (nI c) 4 := fun post h => br_f (nI_pos (by omega)) (br_f (nI_ge (b := 4) hc (by omega)) h)
  have hno : ∀ post : Int32 → Prop, post 0 → wpY_no post (nI c) 4 := fun post h => br_f (nI_pos (by omega)) (br_t (nI_lt (b := 4) hc (by omega)) h)
  have hH : ∀ (al td ph va bf : Nat → Int32), HR 0 0 0 0 (hp_RC 0 (en_h b_variable 0 0 0) (en_h b_loan 0 (vr_lo 0 0) 0) (0 + 1)) (fg_n a_numbers) a_ints a_counts a_fields a_ending a_stage va bf al td ph := fun al td ph va bf =>
    hp_none (fun p hp => by unfold fg_n; rw [if_pos hp]) (fun n h1 h2 => by
      rw [en_RC h1 (by omega), if_pos rfl, hp_dl_0 h1 (by omega)]
      unfold hp_RC
      rw [hp_dl_0 h1 (by omega)]
      rfl)
  by_cases hz : a_length c = 0
  · refine ⟨1, (f_known', nI 1, p0, nI 0, nI 0, 0, 0, 0, nI 0, nI 0, 0, 1, 16 * upd a_fMethod 0 (nI c) (1 - 1) + upd a_fLine 0 0 (1 - 1), a_length, a_lends, a_ops, a_firsts, a_seconds, a_thirds, a_need', a_loan', a_hands', a_keeps', a_come', fg_n a_numbers, a_ints, a_counts, a_fields, a_ending, a_stage, upd a_fMethod 0 (nI c), upd a_fLine 0 0, a_held, a_lent, a_outs, a_ends),
      (f_known', nI 0, nI 0, 0, 0, nI 1, 0, 0, 1, p0, 1, nI 0, nI 0, a_ops, b_as, b_bs, a_thirds, a_length, a_lends, b_need', b_plans', b_keep', b_value, b_fields, b_alive, upd a_fMethod 0 (nI c), upd a_fLine 0 0, en_h b_variable 0 0 0, en_h b_loan 0 (vr_lo 0 0) 0, a_outs, a_ends, b_todo, b_phase), ?_, fun post hp => ?_, fun post hp => ?_⟩
    · exact i_in ⟨hC, fun _ => hA', 0, 0, 0, 1, 0, rfl, rfl, rfl, rfl, rfl, by omega, by omega, hH _ _ _ _ _, fun z => absurd z (by decide), fun _ => rfl, fun z => by rcases z with z | z <;> exact absurd z (by decide), fun _ _ => ⟨by omega, rfl⟩⟩
    · unfold wpX_run
      refine hin _ (br_f tl_n1' (hXp _ ?_))
      dsimp only
      refine fg_x ?_
      refine ⟨nb1, nb2, vc, br_t ?_ ?_⟩
      · rw [cc]; exact hz
      · refine nm_r (e' := upd a_fMethod 0 (nI c)) (by rw [tl_nb (by omega)]) (nm_r (e' := upd a_fLine 0 0) (by rw [tl_nb0]) ⟨1, ?_⟩)
        rw [wX_run_72]
        exact br_f (by decide) (br_f (by decide) ⟨vp_in_nI (n := 0) (by omega) (by omega), vp_in_nI (n := 0) (by omega) (by omega), nm_e hp⟩)
    · unfold wpY_run
      refine hno _ (br_t rfl (hYp _ ?_))
      refine ⟨nb1, nb2, ?_⟩
      refine en_y (D := 0) (M := 0) (nu := a_numbers) (al := b_alive) (x := -1) (by omega) (by omega) (Or.inl ⟨rfl, rfl⟩) ?_
      refine ⟨vc, br_t ?_ ⟨1, ?_⟩⟩
      · rw [cc]; exact hz
      · rw [wY_run_94]
        exact br_f (by decide) hp
  · have V0 : vr_V (0 + 1) 0 (fg_n a_numbers) b_alive (en_h a_held 0 (-1) (-1)) (upd a_lent 0 0) (en_h b_variable 0 0 0) (en_h b_loan 0 (vr_lo 0 0) 0) :=
      en_V (Or.inl rfl) (Or.inl ⟨rfl, rfl⟩) ⟨fun w hw => by omega, fun d hd => by omega⟩
    have LP0 : rn_LP p0 (0 + 1) (en_h b_variable 0 0 0) (en_h b_loan 0 (vr_lo 0 0) 0) := en_LP (fun z => absurd rfl z) (fun w hw => by omega)
    have F0 : rn_F0 p0 a_length a_ops a_thirds a_need' 1 0 0 0 0 0 c 0 (fg_n a_numbers) a_ints a_counts a_fields a_ending a_stage (upd a_fMethod 0 (nI c)) (upd a_fLine 0 0) (en_h a_held 0 (-1) (-1)) (upd a_lent 0 0) b_value b_fields b_alive (en_h b_variable 0 0 0) (en_h b_loan 0 (vr_lo 0 0) 0) b_todo b_phase :=
      ⟨by omega, by omega, by omega, by omega, by omega, hc, by omega, tl_us, tl_us, fun d hd => by omega, hH _ _ _ _ _, V0, rn_lpls LP0⟩
    obtain ⟨r, u', v', u, hR, hdr, hX, hY⟩ := rn_loop (f_known := f_known') (g_ran := 1) (f_brief := p0) (a_lends := a_lends) (a_firsts := a_firsts) (a_seconds := a_seconds) (b_as := b_as) (b_bs := b_bs) (a_need := a_need') (a_loan := a_loan') (a_hands := a_hands') (a_keeps := a_keeps') (a_come := a_come') (b_need := b_need') (b_plans := b_plans') (b_keep := b_keep') hk' tl_n1 hC hA' 2401 1 0 0 0 0 0 c 0 0 0 (fg_n a_numbers) a_ints a_counts a_fields a_ending a_stage (upd a_fMethod 0 (nI c)) (upd a_fLine 0 0) (en_h a_held 0 (-1) (-1)) (upd a_lent 0 0) a_outs a_ends b_value b_fields b_alive (en_h b_variable 0 0 0) (en_h b_loan 0 (vr_lo 0 0) 0) b_todo b_phase F0 (by omega)
    refine ⟨r, u', v', hR, fun post hp => ?_, fun post hp => ?_⟩
    · unfold wpX_run
      refine hin _ (br_f tl_n1' (hXp _ ?_))
      dsimp only
      refine fg_x ?_
      refine ⟨nb1, nb2, vc, br_f ?_ ?_⟩
      · rw [cc]; exact hz
      · exact en_x (D := 0) (M := 0) (nu := a_numbers) (al := b_alive) (y := 0) (u := u) (by omega) hc (Or.inl ⟨rfl, rfl⟩) (Or.inl rfl) hdr ⟨2403, hX post 2403 (by omega) hp⟩
    · unfold wpY_run
      refine hno _ (br_t rfl (hYp _ ?_))
      refine ⟨nb1, nb2, ?_⟩
      refine en_y (D := 0) (M := 0) (nu := a_numbers) (al := b_alive) (x := -1) (by omega) (by omega) (Or.inl ⟨rfl, rfl⟩) ?_
      refine ⟨vc, br_f ?_ ⟨2403, hY post 2403 (by omega) hp⟩⟩
      rw [cc]; exact hz
end
end
section
section
variable {f_known f_depth f_brief f_outCount f_endCount f_ups f_downs f_steps f_made f_alive f_gift f_ended f_stopped : Int32} {a_length a_lends a_ops a_firsts a_seconds a_thirds a_need a_loan a_hands a_keeps a_come a_numbers a_ints a_counts a_fields a_ending a_stage a_fMethod a_fLine a_held a_lent a_outs a_ends : Nat → Int32}
variable {g_known g_made g_living g_counted g_less g_depth g_begun g_given g_outcome g_isShort g_ran g_put g_ended : Int32} {b_ops b_as b_bs b_cs b_size b_lent b_need b_plans b_keep b_value b_fields b_alive b_method b_pc b_variable b_loan b_outs b_ends b_todo b_phase : Nat → Int32}
variable {D M E L S O m i : Nat} {rc : Nat → Nat}
def i_Rel (k : Nat) (u : SX) (v : SY) : Prop := i_R u v
theorem i_up {k : Nat} {u : SX} {v : SY} (h : i_Rel k u v) : i_Rel (k + 6) u v := h
theorem ix_0 {post : Int32 → Prop} {x y : Int32} (h : x < 0 ∨ y ≤ x) (hp : post 0) : wpX_in post x y :=
  br_c (fun _ => hp) (fun z => h.elim (fun q => absurd q z) (fun q => br_t q hp))
theorem ix_1 {post : Int32 → Prop} {x y : Int32} (h1 : ¬ x < 0) (h2 : ¬ y ≤ x) (hp : post 1) : wpX_in post x y := br_f h1 (br_f h2 hp)
theorem iy_1 {post : Int32 → Prop} {x y : Int32} (h : x < 0 ∨ y ≤ x) (hp : post 1) : wpY_no post x y :=
  br_c (fun _ => hp) (fun z => h.elim (fun q => absurd q z) (fun q => br_f (Int32.not_lt.mpr q) hp))
theorem iy_0 {post : Int32 → Prop} {x y : Int32} (h1 : ¬ x < 0) (h2 : ¬ y ≤ x) (hp : post 0) : wpY_no post x y := br_f h1 (br_t (Int32.not_le.mp h2) hp)
theorem ix_c (x : Int32) {n : Nat} (hn : n < 2 ^ 31) : (x < 0 ∨ nI n ≤ x) ∨ ∃ j, j < n ∧ x = nI j ∧ ¬ x < 0 ∧ ¬ nI n ≤ x := by
  rcases pk_ix x hn with h | h | ⟨j, hj, e⟩
  · exact Or.inl (Or.inl h)
  · exact Or.inl (Or.inr h)
  · subst e
    exact Or.inr ⟨j, hj, rfl, nI_pos (by omega), nI_ge hj hn⟩
theorem i_vc_run {k : Nat} {u : SX} {v : SY} (I : i_Rel k u v) (hk : k + 6 ≤ 3072) (v1 : Int32) (v2 : Int32) : wpX_run (fun r u' => wpY_run (fun r' v' => r' = r ∧ i_Rel (k + 6) u' v') v (lw_bz v1) v2) u (lw_bz v1) v2 := by
  refine i_el (P := fun u v => wpX_run (fun r u' => wpY_run (fun r' v' => r' = r ∧ i_Rel (k + 6) u' v') v (lw_bz v1) v2) u (lw_bz v1) v2) ?_ I
  intro f_known f_depth f_brief f_outCount f_endCount f_ups f_downs f_steps f_made f_alive f_gift f_ended f_stopped a_length a_lends a_ops a_firsts a_seconds a_thirds a_need a_loan a_hands a_keeps a_come a_numbers a_ints a_counts a_fields a_ending a_stage a_fMethod a_fLine a_held a_lent a_outs a_ends g_given g_outcome g_isShort g_ran b_as b_bs b_need b_plans b_keep b_value b_fields b_alive b_variable b_loan b_todo b_phase Q
  rcases ix_c v2 (n := 4) (by omega) with h | ⟨c, hc, e, h1, h2⟩
  · unfold wpX_run
    refine ix_0 h (br_t rfl ?_)
    unfold wpY_run
    exact iy_1 h (br_f tl_n1' ⟨rfl, i_in Q⟩)
  · subst e
    obtain ⟨r, u', v', hR, hX, hY⟩ := rn_run (lw_bz_01 v1) hc Q
    exact hX _ (hY _ ⟨rfl, hR⟩)
theorem i_vc_out {k : Nat} {u : SX} {v : SY} (I : i_Rel k u v) (hk : k + 6 ≤ 3072) (v1 : Int32) : wpX_out (fun r => wpY_out (fun r' => r' = r ∧ i_Rel (k + 6) u v) v v1) u v1 := by
  have I' : i_Rel (k + 6) u v := I
  revert I'
  refine i_el (P := fun u v => i_Rel (k + 6) u v → wpX_out (fun r => wpY_out (fun r' => r' = r ∧ i_Rel (k + 6) u v) v v1) u v1) ?_ I
  intro f_known f_depth f_brief f_outCount f_endCount f_ups f_downs f_steps f_made f_alive f_gift f_ended f_stopped a_length a_lends a_ops a_firsts a_seconds a_thirds a_need a_loan a_hands a_keeps a_come a_numbers a_ints a_counts a_fields a_ending a_stage a_fMethod a_fLine a_held a_lent a_outs a_ends g_given g_outcome g_isShort g_ran b_as b_bs b_need b_plans b_keep b_value b_fields b_alive b_variable b_loan b_todo b_phase Q I'
  obtain ⟨hC, hK, M, E, L, D, O, eM, eE, eL, eD, eO, hD, hO, H, _⟩ := Q
  subst eO
  unfold wpX_out
  dsimp only
  rcases ix_c v1 (n := O) (by omega) with h | ⟨c, hc, e, h1, h2⟩
  · refine ix_0 h (br_t rfl ?_)
    unfold wpY_out
    exact iy_1 h (br_f tl_n1' ⟨rfl, I'⟩)
  · refine ix_1 h1 h2 (br_f tl_n1' ⟨by rw [e]; exact vp_in_nI (by omega) (by omega), ?_⟩)
    unfold wpY_out
    exact iy_0 h1 h2 (br_t rfl ⟨by rw [e]; exact vp_in_nI (by omega) (by omega), rfl, I'⟩)
theorem i_vc_ended {k : Nat} {u : SX} {v : SY} (I : i_Rel k u v) (hk : k + 6 ≤ 3072) (v1 : Int32) : wpX_ended (fun r => wpY_ended (fun r' => r' = r ∧ i_Rel (k + 6) u v) v v1) u v1 := by
  have I' : i_Rel (k + 6) u v := I
  revert I'
  refine i_el (P := fun u v => i_Rel (k + 6) u v → wpX_ended (fun r => wpY_ended (fun r' => r' = r ∧ i_Rel (k + 6) u v) v v1) u v1) ?_ I
  intro f_known f_depth f_brief f_outCount f_endCount f_ups f_downs f_steps f_made f_alive f_gift f_ended f_stopped a_length a_lends a_ops a_firsts a_seconds a_thirds a_need a_loan a_hands a_keeps a_come a_numbers a_ints a_counts a_fields a_ending a_stage a_fMethod a_fLine a_held a_lent a_outs a_ends g_given g_outcome g_isShort g_ran b_as b_bs b_need b_plans b_keep b_value b_fields b_alive b_variable b_loan b_todo b_phase Q I'
  obtain ⟨hC, hK, M, E, L, D, O, eM, eE, eL, eD, eO, hD, hO, H, _⟩ := Q
  obtain ⟨hL24, hEL, hM⟩ := hp_L24 H
  subst eE
  unfold wpX_ended
  dsimp only
  rcases ix_c v1 (n := E) (by omega) with h | ⟨c, hc, e, h1, h2⟩
  · refine ix_0 h (br_t rfl ?_)
    unfold wpY_ended
    exact iy_1 h (br_f tl_n1' ⟨rfl, I'⟩)
  · refine ix_1 h1 h2 (br_f tl_n1' ⟨by rw [e]; exact vp_in_nI (by omega) (by omega), ?_⟩)
    unfold wpY_ended
    exact iy_0 h1 h2 (br_t rfl ⟨by rw [e]; exact vp_in_nI (by omega) (by omega), rfl, I'⟩)
theorem qs_pl {post : Int32 → Prop} {x1 : Int32} (h1 : ¬ x1 ≤ 0 → ∀ q, q < 24 → a_numbers q = x1 → post (nI q)) (h0 : (x1 ≤ 0 ∨ ∀ q, q < 24 → a_numbers q ≠ x1) → post (-1)) : wpX_placeOf post (f_known, f_depth, f_brief, f_outCount, f_endCount, f_ups, f_downs, f_steps, f_made, f_alive, f_gift, f_ended, f_stopped, a_length, a_lends, a_ops, a_firsts, a_seconds, a_thirds, a_need, a_loan, a_hands, a_keeps, a_come, a_numbers, a_ints, a_counts, a_fields, a_ending, a_stage, a_fMethod, a_fLine, a_held, a_lent, a_outs, a_ends) x1 := by
  by_cases hz : x1 ≤ 0
  · refine ⟨1, ?_⟩
    rw [wX_placeOf_2]
    exact br_f (by decide) (br_t hz (h0 (Or.inl hz)))
  · have K : ∀ d j, j + d = 24 → (∀ q, q < j → a_numbers q ≠ x1) → wX_placeOf_2 post x1 f_known f_depth f_brief f_outCount f_endCount f_ups f_downs f_steps f_made f_alive f_gift f_ended f_stopped a_length a_lends a_ops a_firsts a_seconds a_thirds a_need a_loan a_hands a_keeps a_come a_numbers a_ints a_counts a_fields a_ending a_stage a_fMethod a_fLine a_held a_lent a_outs a_ends (d + 1) (nI j) := by
      intro d
      induction d with
      | zero =>
        intro j hj hn
        have e : j = 24 := by omega
        subst e
        rw [wX_placeOf_2]
        exact br_t (by decide) (h0 (Or.inr hn))
      | succ d ih =>
        intro j hj hn
        have c : (nI j).toNatClampNeg = j := nI_clamp (by omega)
        rw [wX_placeOf_2]
        refine br_f (nI_ge (b := 24) (by omega) (by omega)) (br_f hz ⟨vp_in_nI (by omega) (by omega), ?_⟩)
        rw [c]
        refine br_c (fun e => h1 hz j (by omega) e) (fun e => nm_r (nI_1 j) (ih (j + 1) (by omega) (fun q hq => ?_)))
        by_cases z : q = j
        · rw [z]; exact e
        · exact hn q (by omega)
    exact ⟨25, K 24 0 rfl (fun q hq => by omega)⟩
theorem qs_live {q n : Nat} (hq : q < 24) (h1 : 1 ≤ n) (hM : n ≤ M) (e : a_numbers q = nI n) (H : HR M E L 0 rc a_numbers a_ints a_counts a_fields a_ending a_stage b_value b_fields b_alive b_todo b_phase) : b_alive n ≠ 0 := by
  intro z
  have h := H.2.2.2.2.2.2.2.2.2.2.2.1
  have hM3 := H.1
  have k := sm_ge (f := hp_ed a_numbers b_alive) hq
  rw [hp_ed1 e h1 (by omega) z] at k
  omega
/-- the object of a number: there on both sides or on none -/
theorem qs_num {x1 : Int32} (H : HR M E L 0 rc a_numbers a_ints a_counts a_fields a_ending a_stage b_value b_fields b_alive b_todo b_phase) : (∃ q n, q < 24 ∧ 1 ≤ n ∧ n ≤ M ∧ x1 = nI n ∧ a_numbers q = nI n ∧ b_alive n ≠ 0) ∨
    ((x1 ≤ 0 ∨ ∀ q, q < 24 → a_numbers q ≠ x1) ∧ ∀ post : Int32 → Prop, post 0 → wpY_isAlive post (g_known, nI M, g_living, g_counted, g_less, g_depth, g_begun, g_given, g_outcome, g_isShort, g_ran, g_put, g_ended, b_ops, b_as, b_bs, b_cs, b_size, b_lent, b_need, b_plans, b_keep, b_value, b_fields, b_alive, b_method, b_pc, b_variable, b_loan, b_outs, b_ends, b_todo, b_phase) x1) := by
  obtain ⟨hL24, hEL, hM⟩ := hp_L24 H
  by_cases hz : x1 ≤ 0
  · exact Or.inr ⟨Or.inl hz, fun post hp => br_t hz hp⟩
  · obtain ⟨n, hn, e⟩ := nI_of (x := x1) (fun w => hz (Int32.le_of_lt w))
    subst e
    have hn1 : 1 ≤ n := by
      refine Nat.pos_of_ne_zero (fun w => hz ?_)
      rw [w]; decide
    by_cases hnM : n ≤ M
    · by_cases ha : b_alive n = 0
      · refine Or.inr ⟨Or.inr (fun q hq e => qs_live hq hn1 hnM e H ha), fun post hp => br_f hz (br_f (nI_nlt hnM (by omega)) ⟨vp_in_nI (by omega) (by omega), br_t ?_ hp⟩)⟩
        rw [nI_clamp hn]; exact ha
      · obtain ⟨q, hq, e⟩ := H.2.2.2.1 n hn1 hnM ha
        exact Or.inl ⟨q, n, hq, hn1, hnM, rfl, e, ha⟩
    · refine Or.inr ⟨Or.inr (fun q hq e => ?_), fun post hp => br_f hz (br_t (nI_lt (by omega) hn) hp)⟩
      obtain ⟨n', hn', e'⟩ := H.2.1 q hq
      have := tl_inj (e.symm.trans e') hn (by omega)
      omega
theorem qs_al {post : Int32 → Prop} {n : Nat} (h1 : 1 ≤ n) (hM : n ≤ M) (hM3 : M ≤ 300) (ha : b_alive n ≠ 0) (hp : post 1) : wpY_isAlive post (g_known, nI M, g_living, g_counted, g_less, g_depth, g_begun, g_given, g_outcome, g_isShort, g_ran, g_put, g_ended, b_ops, b_as, b_bs, b_cs, b_size, b_lent, b_need, b_plans, b_keep, b_value, b_fields, b_alive, b_method, b_pc, b_variable, b_loan, b_outs, b_ends, b_todo, b_phase) (nI n) := by
  refine br_f (nI_nle h1 (by omega)) (br_f (nI_nlt hM (by omega)) ⟨vp_in_nI (by omega) (by omega), br_f ?_ hp⟩)
  rw [nI_clamp (by omega)]; exact ha
theorem i_vc_count {k : Nat} {u : SX} {v : SY} (I : i_Rel k u v) (hk : k + 6 ≤ 3072) (v1 : Int32) : wpX_count (fun r => wpY_count (fun r' => r' = r ∧ i_Rel (k + 6) u v) v v1) u v1 := by
  have I' : i_Rel (k + 6) u v := I
  revert I'
  refine i_el (P := fun u v => i_Rel (k + 6) u v → wpX_count (fun r => wpY_count (fun r' => r' = r ∧ i_Rel (k + 6) u v) v v1) u v1) ?_ I
  intro f_known f_depth f_brief f_outCount f_endCount f_ups f_downs f_steps f_made f_alive f_gift f_ended f_stopped a_length a_lends a_ops a_firsts a_seconds a_thirds a_need a_loan a_hands a_keeps a_come a_numbers a_ints a_counts a_fields a_ending a_stage a_fMethod a_fLine a_held a_lent a_outs a_ends g_given g_outcome g_isShort g_ran b_as b_bs b_need b_plans b_keep b_value b_fields b_alive b_variable b_loan b_todo b_phase Q I'
  obtain ⟨hC, hK, M, E, L, D, O, eM, eE, eL, eD, eO, hD, hO, H, _⟩ := Q
  obtain ⟨hL24, hEL, hM⟩ := hp_L24 H
  subst eM eD
  unfold wpX_count
  rcases qs_num (x1 := v1) H with ⟨q, n, hq, h1, hn, e, en, ha⟩ | ⟨hno, hY⟩
  · subst e
    refine qs_pl (fun _ q' hq' e' => ?_) (fun z => ?_)
    · have hqq : q' = q := H.2.2.1 q' q n hq' hq h1 hn e' en
      subst hqq
      refine br_t (nI_pos' (by omega)) ⟨vp_in_nI hq (by omega), ?_⟩
      unfold wpY_count
      refine qs_al h1 hn hM ha (br_f tl_n1' (yc hM hD ⟨?_, I'⟩))
      rw [nI_clamp (by omega), H.2.2.2.2.1 q' n hq h1 hn en]
    · exfalso
      rcases z with z | z
      · exact nI_nle h1 (by omega) z
      · exact z q hq en
  · refine qs_pl (fun z q hq e => ?_) (fun _ => br_f tl_m1le ?_)
    · exfalso
      rcases hno with w | w
      · exact z w
      · exact w q hq e
    · unfold wpY_count
      exact hY _ (br_t rfl ⟨rfl, I'⟩)
theorem i_vc_field {k : Nat} {u : SX} {v : SY} (I : i_Rel k u v) (hk : k + 6 ≤ 3072) (v1 : Int32) (v2 : Int32) : wpX_field (fun r => wpY_field (fun r' => r' = r ∧ i_Rel (k + 6) u v) v v1 v2) u v1 v2 := by
  have I' : i_Rel (k + 6) u v := I
  revert I'
  refine i_el (P := fun u v => i_Rel (k + 6) u v → wpX_field (fun r => wpY_field (fun r' => r' = r ∧ i_Rel (k + 6) u v) v v1 v2) u v1 v2) ?_ I
  intro f_known f_depth f_brief f_outCount f_endCount f_ups f_downs f_steps f_made f_alive f_gift f_ended f_stopped a_length a_lends a_ops a_firsts a_seconds a_thirds a_need a_loan a_hands a_keeps a_come a_numbers a_ints a_counts a_fields a_ending a_stage a_fMethod a_fLine a_held a_lent a_outs a_ends g_given g_outcome g_isShort g_ran b_as b_bs b_need b_plans b_keep b_value b_fields b_alive b_variable b_loan b_todo b_phase Q I'
  obtain ⟨hC, hK, M, E, L, D, O, eM, eE, eL, eD, eO, hD, hO, H, _⟩ := Q
  obtain ⟨hL24, hEL, hM⟩ := hp_L24 H
  subst eM eD
  unfold wpX_field
  rcases qs_num (x1 := v1) H with ⟨q, n, hq, h1, hn, e, en, ha⟩ | ⟨hno, hY⟩
  · subst e
    refine qs_pl (fun _ q' hq' e' => ?_) (fun z => ?_)
    · have hqq : q' = q := H.2.2.1 q' q n hq' hq h1 hn e' en
      subst hqq
      refine br_f (nI_pos (by omega)) ?_
      rcases ix_c v2 (n := 3) (by omega) with h | ⟨c, hc, e2, g1, g2⟩
      · refine ix_0 h (br_t rfl ?_)
        unfold wpY_field
        exact qs_al h1 hn hM ha (br_f tl_n1' (iy_1 h (br_f tl_n1' ⟨rfl, I'⟩)))
      · refine ix_1 g1 g2 (br_f tl_n1' ?_)
        subst e2
        have e3 : 3 * nI q' + nI c = nI (3 * q' + c) := tl_3 q' c
        have c3 : (nI (3 * q' + c)).toNatClampNeg = 3 * q' + c := nI_clamp (by omega)
        have f3 : 3 * nI n + nI c = nI (3 * n + c) := tl_3 n c
        have d3 : (nI (3 * n + c)).toNatClampNeg = 3 * n + c := nI_clamp (by omega)
        have hxy := (H.2.2.2.2.2.2.2.1 q' n hq h1 hn en ha).2 c hc
        have hfal := fd_al hM h1 hn ha hc H
        have KY : ∀ r : Int32, b_fields (3 * n + c) = r → wpY_field (fun r' => r' = r ∧ i_Rel (k + 6) (f_known, nI D, f_brief, f_outCount, f_endCount, f_ups, f_downs, f_steps, nI M, f_alive, f_gift, f_ended, f_stopped, a_length, a_lends, a_ops, a_firsts, a_seconds, a_thirds, a_need, a_loan, a_hands, a_keeps, a_come, a_numbers, a_ints, a_counts, a_fields, a_ending, a_stage, a_fMethod, a_fLine, a_held, a_lent, a_outs, a_ends) (f_known, nI M, f_alive, f_ups, f_downs, nI D, f_steps, g_given, g_outcome, g_isShort, g_ran, f_outCount, f_endCount, a_ops, b_as, b_bs, a_thirds, a_length, a_lends, b_need, b_plans, b_keep, b_value, b_fields, b_alive, a_fMethod, a_fLine, b_variable, b_loan, a_outs, a_ends, b_todo, b_phase)) (f_known, nI M, f_alive, f_ups, f_downs, nI D, f_steps, g_given, g_outcome, g_isShort, g_ran, f_outCount, f_endCount, a_ops, b_as, b_bs, a_thirds, a_length, a_lends, b_need, b_plans, b_keep, b_value, b_fields, b_alive, a_fMethod, a_fLine, b_variable, b_loan, a_outs, a_ends, b_todo, b_phase) (nI n) (nI c) := by
          intro r hr
          unfold wpY_field
          refine qs_al h1 hn hM ha (br_f tl_n1' (iy_0 g1 g2 (br_t rfl ?_)))
          rw [f3, d3]
          exact ⟨vp_in_nI (by omega) (by omega), hr, I'⟩
        rw [e3, c3]
        refine ⟨vp_in_nI (by omega) (by omega), ?_⟩
        rcases hxy with ⟨wx, wy⟩ | ⟨q2, t, hq2, ht1, htM, ex, ey, hw⟩
        · exact nm_r wx (br_f tl_m1le (KY 0 wy))
        · refine nm_r ex (br_t (nI_pos' (by omega)) ⟨vp_in_nI hq2 (by omega), ?_⟩)
          rw [nI_clamp (by omega), hw (hfal t ht1 htM ey)]
          exact KY (nI t) ey
    · exfalso
      rcases z with z | z
      · exact nI_nle h1 (by omega) z
      · exact z q hq en
  · refine qs_pl (fun z q hq e => ?_) (fun _ => br_t tl_m1lt ?_)
    · exfalso
      rcases hno with w | w
      · exact z w
      · exact w q hq e
    · unfold wpY_field
      exact hY _ (br_t rfl ⟨rfl, I'⟩)
end
end
section
section
variable {f_known f_depth f_brief f_outCount f_endCount f_ups f_downs f_steps f_made f_alive f_gift f_ended f_stopped : Int32} {a_length a_lends a_ops a_firsts a_seconds a_thirds a_need a_loan a_hands a_keeps a_come a_numbers a_ints a_counts a_fields a_ending a_stage a_fMethod a_fLine a_held a_lent a_outs a_ends : Nat → Int32}
variable {g_known g_made g_living g_counted g_less g_depth g_begun g_given g_outcome g_isShort g_ran g_put g_ended : Int32} {b_ops b_as b_bs b_cs b_size b_lent b_need b_plans b_keep b_value b_fields b_alive b_method b_pc b_variable b_loan b_outs b_ends b_todo b_phase : Nat → Int32}
variable {D M E L S O m i : Nat} {rc : Nat → Nat}
theorem i_vc_state {k : Nat} {u : SX} {v : SY} (I : i_Rel k u v) (hk : k + 6 ≤ 3072) (v1 : Int32) : wpX_state (fun r => wpY_state (fun r' => r' = r ∧ i_Rel (k + 6) u v) v v1) u v1 := by
  have I' : i_Rel (k + 6) u v := I
  revert I'
  refine i_el (P := fun u v => i_Rel (k + 6) u v → wpX_state (fun r => wpY_state (fun r' => r' = r ∧ i_Rel (k + 6) u v) v v1) u v1) ?_ I
  intro f_known f_depth f_brief f_outCount f_endCount f_ups f_downs f_steps f_made f_alive f_gift f_ended f_stopped a_length a_lends a_ops a_firsts a_seconds a_thirds a_need a_loan a_hands a_keeps a_come a_numbers a_ints a_counts a_fields a_ending a_stage a_fMethod a_fLine a_held a_lent a_outs a_ends g_given g_outcome g_isShort g_ran b_as b_bs b_need b_plans b_keep b_value b_fields b_alive b_variable b_loan b_todo b_phase Q I'
  obtain ⟨hC, hK, M, E, L, D, O, eM, eE, eL, eD, eO, hD, hO, H, g1, g2, s1, s2⟩ := Q
  by_cases hn : v1 < 0
  · exact br_t hn (br_t hn ⟨rfl, I'⟩)
  · by_cases h9 : 9 < v1
    · exact br_f hn (br_t h9 (br_f hn (br_t h9 ⟨rfl, I'⟩)))
    · obtain ⟨j, hj, e⟩ := nI_of2 (x := v1) (M := 9) (n := 9) (by decide) hn (Int32.not_lt.mp h9)
      subst e
      have hcase : j = 0 ∨ j = 1 ∨ j = 2 ∨ j = 3 ∨ j = 4 ∨ j = 5 ∨ j = 6 ∨ j = 7 ∨ j = 8 ∨ j = 9 := by omega
      rcases hcase with rfl | rfl | rfl | rfl | rfl | rfl | rfl | rfl | rfl | rfl
      · exact br_f (by decide) (br_f (by decide) (br_t rfl (br_f (by decide) (br_f (by decide) (br_t rfl (⟨rfl, I'⟩))))))
      · exact br_f (by decide) (br_f (by decide) (br_f (by decide) (br_t rfl (br_f (by decide) (br_f (by decide) (br_f (by decide) (br_t rfl (⟨rfl, I'⟩))))))))
      · exact br_f (by decide) (br_f (by decide) (br_f (by decide) (br_f (by decide) (br_t rfl (br_f (by decide) (br_f (by decide) (br_f (by decide) (br_f (by decide) (br_t rfl (⟨rfl, I'⟩))))))))))
      · exact br_f (by decide) (br_f (by decide) (br_f (by decide) (br_f (by decide) (br_f (by decide) (br_t rfl (br_f (by decide) (br_f (by decide) (br_f (by decide) (br_f (by decide) (br_f (by decide) (br_t rfl (⟨rfl, I'⟩))))))))))))
      · exact br_f (by decide) (br_f (by decide) (br_f (by decide) (br_f (by decide) (br_f (by decide) (br_f (by decide) (br_t rfl (br_f (by decide) (br_f (by decide) (br_f (by decide) (br_f (by decide) (br_f (by decide) (br_f (by decide) (br_t rfl (⟨rfl, I'⟩))))))))))))))
      · exact br_f (by decide) (br_f (by decide) (br_f (by decide) (br_f (by decide) (br_f (by decide) (br_f (by decide) (br_f (by decide) (br_t rfl (br_f (by decide) (br_f (by decide) (br_f (by decide) (br_f (by decide) (br_f (by decide) (br_f (by decide) (br_f (by decide) (br_t rfl (⟨rfl, I'⟩))))))))))))))))
      · exact br_f (by decide) (br_f (by decide) (br_f (by decide) (br_f (by decide) (br_f (by decide) (br_f (by decide) (br_f (by decide) (br_f (by decide) (br_t rfl (br_f (by decide) (br_f (by decide) (br_f (by decide) (br_f (by decide) (br_f (by decide) (br_f (by decide) (br_f (by decide) (br_f (by decide) (br_t rfl (⟨rfl, I'⟩))))))))))))))))))
      · refine br_f (by decide) (br_f (by decide) (br_f (by decide) (br_f (by decide) (br_f (by decide) (br_f (by decide) (br_f (by decide) (br_f (by decide) (br_f (by decide) (br_t rfl (br_f (by decide) (br_f (by decide) (br_f (by decide) (br_f (by decide) (br_f (by decide) (br_f (by decide) (br_f (by decide) (br_f (by decide) (br_f (by decide) (br_t rfl (?_))))))))))))))))))))
        exact br_c (fun z => ⟨(g1 z).symm, I'⟩) (fun z => ⟨(g2 z).symm, I'⟩)
      · exact br_f (by decide) (br_f (by decide) (br_f (by decide) (br_f (by decide) (br_f (by decide) (br_f (by decide) (br_f (by decide) (br_f (by decide) (br_f (by decide) (br_f (by decide) (br_t rfl (br_f (by decide) (br_f (by decide) (br_f (by decide) (br_f (by decide) (br_f (by decide) (br_f (by decide) (br_f (by decide) (br_f (by decide) (br_f (by decide) (br_f (by decide) (br_t rfl (⟨rfl, I'⟩))))))))))))))))))))))
      · refine br_f (by decide) (br_f (by decide) (br_f (by decide) (br_f (by decide) (br_f (by decide) (br_f (by decide) (br_f (by decide) (br_f (by decide) (br_f (by decide) (br_f (by decide) (br_f (by decide) (br_t rfl (br_f (by decide) (br_f (by decide) (br_f (by decide) (br_f (by decide) (br_f (by decide) (br_f (by decide) (br_f (by decide) (br_f (by decide) (br_f (by decide) (br_f (by decide) (br_f (by decide) (br_t rfl (?_))))))))))))))))))))))))
        refine br_c (fun z => ⟨(s1 (Or.inl z)).symm, I'⟩) (fun z => br_c (fun z2 => ⟨(s1 (Or.inr z2)).symm, I'⟩) (fun z2 => ?_))
        obtain ⟨hD1, es⟩ := s2 z z2
        have ed : f_depth - 1 = nI (D - 1) := by rw [eD]; exact tl_pred hD1
        have cd : (nI (D - 1)).toNatClampNeg = D - 1 := nI_clamp (by omega)
        have vd : vp_in (nI (D - 1)) 6 := vp_in_nI (by omega) (by omega)
        rw [ed, cd]
        exact ⟨vd, vd, es.symm, I'⟩
theorem i_vc0 : wpX_init (fun u => wpY_init (fun v => i_Rel 0 u v)) := by
  refine fg_x ?_
  have hz : ∀ m : Nat, (fun _ : Nat => (0 : Int32)) m = nI 0 := fun _ => rfl
  refine i_in (f_brief := 0) (f_ended := 0) (g_isShort := 0) (a_held := fun _ => 0) (a_lent := fun _ => 0) ⟨⟨fun m _ => ⟨0, by omega, rfl⟩, fun k _ => ⟨0, by omega, rfl, fun _ _ => ⟨0, by omega, rfl, rfl⟩, fun _ => ⟨0, by omega, rfl, rfl⟩, fun _ => ⟨0, by omega, rfl⟩, fun _ => ⟨0, by omega, rfl⟩, fun _ => ⟨0, by omega, rfl⟩⟩⟩, fun z => absurd rfl z, 0, 0, 0, 0, 0, rfl, rfl, rfl, rfl, rfl, by omega, by omega, hp_none (fun p hp => by unfold fg_n; rw [if_pos hp]) (fun n h1 h2 => ?_), fun z => absurd z (by decide), fun _ => rfl, fun _ => rfl, fun z => absurd rfl z⟩
  unfold hp_RC
  rw [hp_dl_0 h1 (by omega)]
  rfl
theorem i_vc_method {k : Nat} {u : SX} {v : SY} (I : i_Rel k u v) (hk : k + 6 ≤ 3072) (v1 : Int32) (v2 : Int32) : wpX_method (fun r u' => wpY_method (fun r' v' => r' = r ∧ i_Rel (k + 6) u' v') v v1 (lw_bz v2)) u v1 (lw_bz v2) := by
  refine i_el (P := fun u v => wpX_method (fun r u' => wpY_method (fun r' v' => r' = r ∧ i_Rel (k + 6) u' v') v v1 (lw_bz v2)) u v1 (lw_bz v2)) ?_ I
  intro f_known f_depth f_brief f_outCount f_endCount f_ups f_downs f_steps f_made f_alive f_gift f_ended f_stopped a_length a_lends a_ops a_firsts a_seconds a_thirds a_need a_loan a_hands a_keeps a_come a_numbers a_ints a_counts a_fields a_ending a_stage a_fMethod a_fLine a_held a_lent a_outs a_ends g_given g_outcome g_isShort g_ran b_as b_bs b_need b_plans b_keep b_value b_fields b_alive b_variable b_loan b_todo b_phase Q
  unfold wpX_method
  rcases ix_c v1 (n := 4) (by omega) with h | ⟨m, hm, e, h1, h2⟩
  · refine ix_0 h (br_t rfl ?_)
    unfold wpY_method
    exact iy_1 h (br_f tl_n1' ⟨rfl, i_in Q⟩)
  · subst e
    have cm : (nI m).toNatClampNeg = m := nI_clamp (by omega)
    have vm : vp_in (nI m) 4 := vp_in_nI hm (by omega)
    refine ix_1 h1 h2 (br_f tl_n1' ?_)
    rw [cm, tl_nb0]
    refine ⟨vm, nm_e ⟨vm, nm_e ⟨vm, nm_e ?_⟩⟩⟩
    unfold wpY_method
    refine iy_0 h1 h2 (br_t rfl ?_)
    rw [cm]
    refine ⟨vm, nm_e ⟨vm, nm_e ⟨vm, nm_e ⟨rfl, ?_⟩⟩⟩⟩
    obtain ⟨hC, hK, R⟩ := Q
    refine i_in ⟨⟨fun m' hm' => ?_, hC.2⟩, fun z => absurd rfl z, R⟩
    by_cases z : m' = m
    · exact ⟨0, by omega, by rw [z, tl_us]; rfl⟩
    · rw [tl_un z]; exact hC.1 m' hm'
theorem i_vc_plan {k : Nat} {u : SX} {v : SY} (I : i_Rel k u v) (hk : k + 6 ≤ 3072) (v1 : Int32) (v2 : Int32) : wpX_plan (fun r u' => wpY_plan (fun r' v' => r' = r ∧ i_Rel (k + 6) u' v') v v1 v2) u v1 v2 := by
  refine i_el (P := fun u v => wpX_plan (fun r u' => wpY_plan (fun r' v' => r' = r ∧ i_Rel (k + 6) u' v') v v1 v2) u v1 v2) ?_ I
  intro f_known f_depth f_brief f_outCount f_endCount f_ups f_downs f_steps f_made f_alive f_gift f_ended f_stopped a_length a_lends a_ops a_firsts a_seconds a_thirds a_need a_loan a_hands a_keeps a_come a_numbers a_ints a_counts a_fields a_ending a_stage a_fMethod a_fLine a_held a_lent a_outs a_ends g_given g_outcome g_isShort g_ran b_as b_bs b_need b_plans b_keep b_value b_fields b_alive b_variable b_loan b_todo b_phase Q
  unfold wpX_plan
  rcases ix_c v1 (n := 4) (by omega) with h | ⟨m, hm, e, h1, h2⟩
  · refine ix_0 h (br_t rfl ?_)
    unfold wpY_plan wpY_has
    exact iy_1 h (br_f tl_n1' (br_t rfl ⟨rfl, i_in Q⟩))
  · subst e
    have cm : (nI m).toNatClampNeg = m := nI_clamp (by omega)
    have vm : vp_in (nI m) 4 := vp_in_nI hm (by omega)
    have hl := cd_len Q.1 hm
    refine ix_1 h1 h2 (br_f tl_n1' ?_)
    rw [cm, hl.2]
    refine ⟨vm, ?_⟩
    rcases ix_c v2 (n := rn_len a_length m) (by omega) with g | ⟨i, hi, e2, g1, g2⟩
    · refine ix_0 g (br_t rfl ?_)
      unfold wpY_plan wpY_has
      refine iy_0 h1 h2 (br_t rfl ?_)
      rw [cm, hl.2]
      exact ⟨vm, iy_1 g (br_f tl_n1' (br_t rfl ⟨rfl, i_in Q⟩))⟩
    · subst e2
      refine ix_1 g1 g2 (br_f tl_n1' ?_)
      obtain ⟨hC, hK, R⟩ := Q
      obtain ⟨f_known', a_need', a_loan', a_hands', a_keeps', a_come', b_need', b_plans', b_keep', hk', hA', hXp, hYp⟩ := pr_j (f_known := f_known) (f_depth := f_depth) (f_brief := f_brief) (f_outCount := f_outCount) (f_endCount := f_endCount) (f_ups := f_ups) (f_downs := f_downs) (f_steps := f_steps) (f_made := f_made) (f_alive := f_alive) (f_gift := f_gift) (f_ended := f_ended) (f_stopped := f_stopped) (a_length := a_length) (a_lends := a_lends) (a_ops := a_ops) (a_firsts := a_firsts) (a_seconds := a_seconds) (a_thirds := a_thirds) (a_need := a_need) (a_loan := a_loan) (a_hands := a_hands) (a_keeps := a_keeps) (a_come := a_come) (a_numbers := a_numbers) (a_ints := a_ints) (a_counts := a_counts) (a_fields := a_fields) (a_ending := a_ending) (a_stage := a_stage) (a_fMethod := a_fMethod) (a_fLine := a_fLine) (a_held := a_held) (a_lent := a_lent) (a_outs := a_outs) (a_ends := a_ends) (g_made := f_made) (g_living := f_alive) (g_counted := f_ups) (g_less := f_downs) (g_depth := f_depth) (g_begun := f_steps) (g_given := g_given) (g_outcome := g_outcome) (g_isShort := g_isShort) (g_ran := g_ran) (g_put := f_outCount) (g_ended := f_endCount) (b_as := b_as) (b_bs := b_bs) (b_need := b_need) (b_plans := b_plans) (b_keep := b_keep) (b_value := b_value) (b_fields := b_fields) (b_alive := b_alive) (b_method := a_fMethod) (b_pc := a_fLine) (b_variable := b_variable) (b_loan := b_loan) (b_outs := a_outs) (b_ends := a_ends) (b_todo := b_todo) (b_phase := b_phase) hC hK
      have ck : (nI (16 * m + i)).toNatClampNeg = 16 * m + i := nI_clamp (by omega)
      have vk : vp_in (nI (16 * m + i)) 64 := vp_in_nI (by omega) (by omega)
      have hR : i_Rel (k + 6) (f_known', f_depth, f_brief, f_outCount, f_endCount, f_ups, f_downs, f_steps, f_made, f_alive, f_gift, f_ended, f_stopped, a_length, a_lends, a_ops, a_firsts, a_seconds, a_thirds, a_need', a_loan', a_hands', a_keeps', a_come', a_numbers, a_ints, a_counts, a_fields, a_ending, a_stage, a_fMethod, a_fLine, a_held, a_lent, a_outs, a_ends) (f_known', f_made, f_alive, f_ups, f_downs, f_depth, f_steps, g_given, g_outcome, g_isShort, g_ran, f_outCount, f_endCount, a_ops, b_as, b_bs, a_thirds, a_length, a_lends, b_need', b_plans', b_keep', b_value, b_fields, b_alive, a_fMethod, a_fLine, b_variable, b_loan, a_outs, a_ends, b_todo, b_phase) := i_in ⟨hC, fun _ => hA', R⟩
      obtain ⟨_, _, p1, _⟩ := hA' m i hm hi
      have KY : ∀ r : Int32, b_plans' (16 * m + i) = r → wpY_plan (fun r' v' => r' = r ∧ i_Rel (k + 6) (f_known', f_depth, f_brief, f_outCount, f_endCount, f_ups, f_downs, f_steps, f_made, f_alive, f_gift, f_ended, f_stopped, a_length, a_lends, a_ops, a_firsts, a_seconds, a_thirds, a_need', a_loan', a_hands', a_keeps', a_come', a_numbers, a_ints, a_counts, a_fields, a_ending, a_stage, a_fMethod, a_fLine, a_held, a_lent, a_outs, a_ends) v') (f_known, f_made, f_alive, f_ups, f_downs, f_depth, f_steps, g_given, g_outcome, g_isShort, g_ran, f_outCount, f_endCount, a_ops, b_as, b_bs, a_thirds, a_length, a_lends, b_need, b_plans, b_keep, b_value, b_fields, b_alive, a_fMethod, a_fLine, b_variable, b_loan, a_outs, a_ends, b_todo, b_phase) (nI m) (nI i) := by
        intro r hr
        unfold wpY_plan wpY_has
        refine iy_0 h1 h2 (br_t rfl ?_)
        rw [cm, hl.2]
        refine ⟨vm, iy_0 g1 g2 (br_t rfl (br_f tl_n1' (hYp _ ?_)))⟩
        rw [tl_16, ck]
        exact ⟨vk, hr, hR⟩
      refine hXp _ ?_
      rw [tl_16, ck]
      refine ⟨vk, br_c (fun z => ⟨vk, br_c (fun z2 => KY 0 ?_) (fun z2 => KY 2 ?_)⟩) (fun z => KY 1 ?_)⟩
      · rw [p1, if_neg (fun q => q z), if_neg (fun q => q z2)]
      · rw [p1, if_neg (fun q => q z), if_pos z2]
      · rw [p1, if_pos z]
end
end
section
section
variable {f_known f_depth f_brief f_outCount f_endCount f_ups f_downs f_steps f_made f_alive f_gift f_ended f_stopped : Int32} {a_length a_lends a_ops a_firsts a_seconds a_thirds a_need a_loan a_hands a_keeps a_come a_numbers a_ints a_counts a_fields a_ending a_stage a_fMethod a_fLine a_held a_lent a_outs a_ends : Nat → Int32}
variable {g_known g_made g_living g_counted g_less g_depth g_begun g_given g_outcome g_isShort g_ran g_put g_ended : Int32} {b_ops b_as b_bs b_cs b_size b_lent b_need b_plans b_keep b_value b_fields b_alive b_method b_pc b_variable b_loan b_outs b_ends b_todo b_phase : Nat → Int32}
variable {D M E L S O m i : Nat} {rc : Nat → Nat}
theorem i_vc_set {k : Nat} {u : SX} {v : SY} (I : i_Rel k u v) (hk : k + 6 ≤ 3072) (v1 : Int32) (v2 : Int32) (v3 : Int32) : wpX_set (fun r u' => wpY_set (fun r' v' => r' = r ∧ i_Rel (k + 6) u' v') v v1 v2 v3) u v1 v2 v3 := by
  refine i_el (P := fun u v => wpX_set (fun r u' => wpY_set (fun r' v' => r' = r ∧ i_Rel (k + 6) u' v') v v1 v2 v3) u v1 v2 v3) ?_ I
  intro f_known f_depth f_brief f_outCount f_endCount f_ups f_downs f_steps f_made f_alive f_gift f_ended f_stopped a_length a_lends a_ops a_firsts a_seconds a_thirds a_need a_loan a_hands a_keeps a_come a_numbers a_ints a_counts a_fields a_ending a_stage a_fMethod a_fLine a_held a_lent a_outs a_ends g_given g_outcome g_isShort g_ran b_as b_bs b_need b_plans b_keep b_value b_fields b_alive b_variable b_loan b_todo b_phase Q
  unfold wpX_set
  rcases ix_c v1 (n := 4) (by omega) with h | ⟨m, hm, e, h1, h2⟩
  · refine ix_0 h (br_t rfl ?_)
    unfold wpY_set wpY_has
    exact iy_1 h (br_f tl_n1' (br_t rfl ⟨rfl, i_in Q⟩))
  · subst e
    have cm : (nI m).toNatClampNeg = m := nI_clamp (by omega)
    have vm : vp_in (nI m) 4 := vp_in_nI hm (by omega)
    have hl := cd_len Q.1 hm
    refine ix_1 h1 h2 (br_f tl_n1' ?_)
    rw [cm, hl.2]
    refine ⟨vm, ?_⟩
    rcases ix_c v2 (n := rn_len a_length m) (by omega) with g | ⟨i, hi, e2, g1, g2⟩
    · refine ix_0 g (br_t rfl ?_)
      unfold wpY_set wpY_has
      refine iy_0 h1 h2 (br_t rfl ?_)
      rw [cm, hl.2]
      exact ⟨vm, iy_1 g (br_f tl_n1' (br_t rfl ⟨rfl, i_in Q⟩))⟩
    · subst e2
      refine ix_1 g1 g2 (br_f tl_n1' ?_)
      obtain ⟨hC, hK, R⟩ := Q
      obtain ⟨f_known', a_need', a_loan', a_hands', a_keeps', a_come', b_need', b_plans', b_keep', hk', hA', hXp, hYp⟩ := pr_j (f_known := f_known) (f_depth := f_depth) (f_brief := f_brief) (f_outCount := f_outCount) (f_endCount := f_endCount) (f_ups := f_ups) (f_downs := f_downs) (f_steps := f_steps) (f_made := f_made) (f_alive := f_alive) (f_gift := f_gift) (f_ended := f_ended) (f_stopped := f_stopped) (a_length := a_length) (a_lends := a_lends) (a_ops := a_ops) (a_firsts := a_firsts) (a_seconds := a_seconds) (a_thirds := a_thirds) (a_need := a_need) (a_loan := a_loan) (a_hands := a_hands) (a_keeps := a_keeps) (a_come := a_come) (a_numbers := a_numbers) (a_ints := a_ints) (a_counts := a_counts) (a_fields := a_fields) (a_ending := a_ending) (a_stage := a_stage) (a_fMethod := a_fMethod) (a_fLine := a_fLine) (a_held := a_held) (a_lent := a_lent) (a_outs := a_outs) (a_ends := a_ends) (g_made := f_made) (g_living := f_alive) (g_counted := f_ups) (g_less := f_downs) (g_depth := f_depth) (g_begun := f_steps) (g_given := g_given) (g_outcome := g_outcome) (g_isShort := g_isShort) (g_ran := g_ran) (g_put := f_outCount) (g_ended := f_endCount) (b_as := b_as) (b_bs := b_bs) (b_need := b_need) (b_plans := b_plans) (b_keep := b_keep) (b_value := b_value) (b_fields := b_fields) (b_alive := b_alive) (b_method := a_fMethod) (b_pc := a_fLine) (b_variable := b_variable) (b_loan := b_loan) (b_outs := a_outs) (b_ends := a_ends) (b_todo := b_todo) (b_phase := b_phase) hC hK
      have ck : (nI (16 * m + i)).toNatClampNeg = 16 * m + i := nI_clamp (by omega)
      have vk : vp_in (nI (16 * m + i)) 64 := vp_in_nI (by omega) (by omega)
      have hR : i_Rel (k + 6) (f_known', f_depth, f_brief, f_outCount, f_endCount, f_ups, f_downs, f_steps, f_made, f_alive, f_gift, f_ended, f_stopped, a_length, a_lends, a_ops, a_firsts, a_seconds, a_thirds, a_need', a_loan', a_hands', a_keeps', a_come', a_numbers, a_ints, a_counts, a_fields, a_ending, a_stage, a_fMethod, a_fLine, a_held, a_lent, a_outs, a_ends) (f_known', f_made, f_alive, f_ups, f_downs, f_depth, f_steps, g_given, g_outcome, g_isShort, g_ran, f_outCount, f_endCount, a_ops, b_as, b_bs, a_thirds, a_length, a_lends, b_need', b_plans', b_keep', b_value, b_fields, b_alive, a_fMethod, a_fLine, b_variable, b_loan, a_outs, a_ends, b_todo, b_phase) := i_in ⟨hC, fun _ => hA', R⟩
      obtain ⟨nd1, nd6, _, kc0, kc1, ⟨kp6, kph⟩, _, hln⟩ := hA' m i hm hi
      obtain ⟨pl2, pl1⟩ := op_pl hA' hm hi
      -- Y behind look
      have KY : ∀ (r : Int32), (((v3 = 2 → wY_set_41 (fun r' v' => r' = r ∧ i_Rel (k + 6) (f_known', f_depth, f_brief, f_outCount, f_endCount, f_ups, f_downs, f_steps, f_made, f_alive, f_gift, f_ended, f_stopped, a_length, a_lends, a_ops, a_firsts, a_seconds, a_thirds, a_need', a_loan', a_hands', a_keeps', a_come', a_numbers, a_ints, a_counts, a_fields, a_ending, a_stage, a_fMethod, a_fLine, a_held, a_lent, a_outs, a_ends) v') (nI m) v3 (nI (16 * m + i)) (nI (i + 1)) f_known' f_made f_alive f_ups f_downs f_depth f_steps g_given g_outcome g_isShort g_ran f_outCount f_endCount a_ops b_as b_bs a_thirds a_length a_lends b_need' b_plans' b_keep' b_value b_fields b_alive a_fMethod a_fLine b_variable b_loan a_outs a_ends b_todo b_phase) ∧ (¬ v3 = 2 → wY_set_41 (fun r' v' => r' = r ∧ i_Rel (k + 6) (f_known', f_depth, f_brief, f_outCount, f_endCount, f_ups, f_downs, f_steps, f_made, f_alive, f_gift, f_ended, f_stopped, a_length, a_lends, a_ops, a_firsts, a_seconds, a_thirds, a_need', a_loan', a_hands', a_keeps', a_come', a_numbers, a_ints, a_counts, a_fields, a_ending, a_stage, a_fMethod, a_fLine, a_held, a_lent, a_outs, a_ends) v') (nI m) v3 (nI (16 * m + i)) (a_thirds (16 * m + i)) f_known' f_made f_alive f_ups f_downs f_depth f_steps g_given g_outcome g_isShort g_ran f_outCount f_endCount a_ops b_as b_bs a_thirds a_length a_lends b_need' b_plans' b_keep' b_value b_fields b_alive a_fMethod a_fLine b_variable b_loan a_outs a_ends b_todo b_phase))) → wpY_set (fun r' v' => r' = r ∧ i_Rel (k + 6) (f_known', f_depth, f_brief, f_outCount, f_endCount, f_ups, f_downs, f_steps, f_made, f_alive, f_gift, f_ended, f_stopped, a_length, a_lends, a_ops, a_firsts, a_seconds, a_thirds, a_need', a_loan', a_hands', a_keeps', a_come', a_numbers, a_ints, a_counts, a_fields, a_ending, a_stage, a_fMethod, a_fLine, a_held, a_lent, a_outs, a_ends) v') (f_known, f_made, f_alive, f_ups, f_downs, f_depth, f_steps, g_given, g_outcome, g_isShort, g_ran, f_outCount, f_endCount, a_ops, b_as, b_bs, a_thirds, a_length, a_lends, b_need, b_plans, b_keep, b_value, b_fields, b_alive, a_fMethod, a_fLine, b_variable, b_loan, a_outs, a_ends, b_todo, b_phase) (nI m) (nI i) v3 := by
        intro r hr
        unfold wpY_set wpY_has
        refine iy_0 h1 h2 (br_t rfl ?_)
        rw [cm, hl.2]
        refine ⟨vm, iy_0 g1 g2 (br_t rfl (br_f tl_n1' (hYp _ ?_)))⟩
        refine nm_r (tl_16 m i) ?_
        rw [nI_1, ck]
        exact ⟨hr.1, fun z => ⟨vk, hr.2 z⟩⟩
      -- the answers for the ways
      have KW : ∀ (c : Nat), c ≤ 16 → (an_jp (a_ops (16 * m + i)) ∨ an_gs (a_ops (16 * m + i))) → (∀ r : Int32, wY_set_120 (fun r' v' => r' = r ∧ i_Rel (k + 6) (f_known', f_depth, f_brief, f_outCount, f_endCount, f_ups, f_downs, f_steps, f_made, f_alive, f_gift, f_ended, f_stopped, a_length, a_lends, a_ops, a_firsts, a_seconds, a_thirds, a_need', a_loan', a_hands', a_keeps', a_come', a_numbers, a_ints, a_counts, a_fields, a_ending, a_stage, a_fMethod, a_fLine, a_held, a_lent, a_outs, a_ends) v') (nI m) (nI (16 * m + i)) (nI c) f_known' f_made f_alive f_ups f_downs f_depth f_steps g_given g_outcome g_isShort g_ran f_outCount f_endCount a_ops b_as b_bs a_thirds a_length a_lends b_need' b_plans' b_keep' b_value b_fields b_alive a_fMethod a_fLine b_variable b_loan a_outs a_ends b_todo b_phase → wpY_set (fun r' v' => r' = r ∧ i_Rel (k + 6) (f_known', f_depth, f_brief, f_outCount, f_endCount, f_ups, f_downs, f_steps, f_made, f_alive, f_gift, f_ended, f_stopped, a_length, a_lends, a_ops, a_firsts, a_seconds, a_thirds, a_need', a_loan', a_hands', a_keeps', a_come', a_numbers, a_ints, a_counts, a_fields, a_ending, a_stage, a_fMethod, a_fLine, a_held, a_lent, a_outs, a_ends) v') (f_known, f_made, f_alive, f_ups, f_downs, f_depth, f_steps, g_given, g_outcome, g_isShort, g_ran, f_outCount, f_endCount, a_ops, b_as, b_bs, a_thirds, a_length, a_lends, b_need, b_plans, b_keep, b_value, b_fields, b_alive, a_fMethod, a_fLine, b_variable, b_loan, a_outs, a_ends, b_todo, b_phase) (nI m) (nI i) v3) → wX_set_122 (fun r u' => wpY_set (fun r' v' => r' = r ∧ i_Rel (k + 6) u' v') (f_known, f_made, f_alive, f_ups, f_downs, f_depth, f_steps, g_given, g_outcome, g_isShort, g_ran, f_outCount, f_endCount, a_ops, b_as, b_bs, a_thirds, a_length, a_lends, b_need, b_plans, b_keep, b_value, b_fields, b_alive, a_fMethod, a_fLine, b_variable, b_loan, a_outs, a_ends, b_todo, b_phase) (nI m) (nI i) v3) (nI m) (nI (16 * m + i)) (nI c) f_known' f_depth f_brief f_outCount f_endCount f_ups f_downs f_steps f_made f_alive f_gift f_ended f_stopped a_length a_lends a_ops a_firsts a_seconds a_thirds a_need' a_loan' a_hands' a_keeps' a_come' a_numbers a_ints a_counts a_fields a_ending a_stage a_fMethod a_fLine a_held a_lent a_outs a_ends := by
        intro c hc _ hY
        -- Y: what is left, given what is kept
        have KY2 : ∀ r rk : Int32, rk &&& (rn_na a_length a_need' m c ^^^ (-1)) = r → ((a_length m ≤ nI c → (rk &&& ((0 : Int32) ^^^ (-1)) = r ∧ i_Rel (k + 6) (f_known', f_depth, f_brief, f_outCount, f_endCount, f_ups, f_downs, f_steps, f_made, f_alive, f_gift, f_ended, f_stopped, a_length, a_lends, a_ops, a_firsts, a_seconds, a_thirds, a_need', a_loan', a_hands', a_keeps', a_come', a_numbers, a_ints, a_counts, a_fields, a_ending, a_stage, a_fMethod, a_fLine, a_held, a_lent, a_outs, a_ends) (f_known', f_made, f_alive, f_ups, f_downs, f_depth, f_steps, g_given, g_outcome, g_isShort, g_ran, f_outCount, f_endCount, a_ops, b_as, b_bs, a_thirds, a_length, a_lends, b_need', b_plans', b_keep', b_value, b_fields, b_alive, a_fMethod, a_fLine, b_variable, b_loan, a_outs, a_ends, b_todo, b_phase))) ∧ (¬ a_length m ≤ nI c → (vp_in (16 * nI m + nI c) 64 ∧ (rk &&& (b_need' (16 * nI m + nI c).toNatClampNeg ^^^ (-1)) = r ∧ i_Rel (k + 6) (f_known', f_depth, f_brief, f_outCount, f_endCount, f_ups, f_downs, f_steps, f_made, f_alive, f_gift, f_ended, f_stopped, a_length, a_lends, a_ops, a_firsts, a_seconds, a_thirds, a_need', a_loan', a_hands', a_keeps', a_come', a_numbers, a_ints, a_counts, a_fields, a_ending, a_stage, a_fMethod, a_fLine, a_held, a_lent, a_outs, a_ends) (f_known', f_made, f_alive, f_ups, f_downs, f_depth, f_steps, g_given, g_outcome, g_isShort, g_ran, f_outCount, f_endCount, a_ops, b_as, b_bs, a_thirds, a_length, a_lends, b_need', b_plans', b_keep', b_value, b_fields, b_alive, a_fMethod, a_fLine, b_variable, b_loan, a_outs, a_ends, b_todo, b_phase))))) := by
          intro r rk hr
          unfold rn_na at hr
          rw [hl.2]
          by_cases z : c < rn_len a_length m
          · rw [if_pos z] at hr
            refine br_f (nI_ge z (by omega)) ?_
            rw [tl_16, nI_clamp (by omega)]
            exact ⟨vp_in_nI (by omega) (by omega), by rw [(hA' m c hm z).1]; exact hr, hR⟩
          · rw [if_neg z] at hr
            exact br_t (nI_le (by omega) (by omega)) ⟨hr, hR⟩
        unfold wX_set_122
        rw [ck]
        refine ⟨vk, br_c (fun z => ?_) (fun z => ?_)⟩
        · obtain ⟨q1, q2⟩ := kc0 z
          refine rn_needAt hm (by omega) hl (hY _ ?_)
          unfold wY_set_120
          rw [ck, q1]
          refine ⟨vk, br_f tl_m1le ⟨?_, hR⟩⟩
          refine b_ext (fun v _ => ?_)
          rw [bt_nd, b_0]; rfl
        · have q1 := kc1 z
          have hh : a_hands' (16 * m + i) ≠ 0 → ∃ b, b < 6 ∧ a_seconds (16 * m + i) = nI b ∧ b_bs (16 * m + i) = nI b := kph
          obtain ⟨rk, k1, k2, k3⟩ := xa_kept (f_known := f_known') (f_depth := f_depth) (f_brief := f_brief) (f_outCount := f_outCount) (f_endCount := f_endCount) (f_ups := f_ups) (f_downs := f_downs) (f_steps := f_steps) (f_made := f_made) (f_alive := f_alive) (f_gift := f_gift) (f_ended := f_ended) (f_stopped := f_stopped) (a_length := a_length) (a_lends := a_lends) (a_ops := a_ops) (a_firsts := a_firsts) (a_seconds := a_seconds) (a_thirds := a_thirds) (a_need := a_need') (a_loan := a_loan') (a_hands := a_hands') (a_keeps := a_keeps') (a_come := a_come') (a_numbers := a_numbers) (a_ints := a_ints) (a_counts := a_counts) (a_fields := a_fields) (a_ending := a_ending) (a_stage := a_stage) (a_fMethod := a_fMethod) (a_fLine := a_fLine) (a_held := a_held) (a_lent := a_lent) (a_outs := a_outs) (a_ends := a_ends) hC (show 16 * m + i < 64 by omega) kp6 (fun w => by obtain ⟨b, hb, es, _⟩ := hh w; exact ⟨b, hb, es⟩)
          obtain ⟨rk2, y1, y2, y3⟩ := ya_kept (g_known := f_known') (g_made := f_made) (g_living := f_alive) (g_counted := f_ups) (g_less := f_downs) (g_depth := f_depth) (g_begun := f_steps) (g_given := g_given) (g_outcome := g_outcome) (g_isShort := g_isShort) (g_ran := g_ran) (g_put := f_outCount) (g_ended := f_endCount) (b_need := b_need') (b_value := b_value) (b_fields := b_fields) (b_alive := b_alive) (b_method := a_fMethod) (b_pc := a_fLine) (b_variable := b_variable) (b_loan := b_loan) (b_outs := a_outs) (b_ends := a_ends) (b_todo := b_todo) (b_phase := b_phase) (b_plans := b_plans') (b_keep := b_keep') (a_loan := a_loan') (a_hands := a_hands') hC (show 16 * m + i < 64 by omega) (by rw [q1]; exact kp6) pl1 (fun w => (hln w).2.1) pl2 hh
          have erk : rk2 = rk := mk_ext y1 k1 (fun v hv => by
            have := (y2 v hv).trans ((by rw [q1]) : _ ↔ _) |>.trans (k2 v hv).symm
            cases w1 : bt rk2 v
            · cases w2 : bt rk v
              · rfl
              · rw [this.mpr w2] at w1; exact absurd w1 (by decide)
            · rw [this.mp w1])
          refine k3 _ (rn_needAt hm (by omega) hl (hY _ ?_))
          unfold wY_set_120
          rw [ck, q1]
          refine ⟨vk, br_t (ky_m1 kp6).2.2.1 (y3 _ ?_)⟩
          rw [cm, erk]
          exact ⟨vm, KY2 _ rk rfl⟩
      have G : ∀ r45 r47 : Int32, (r45 = 0 ↔ ¬ an_gs (a_ops (16 * m + i))) → (r47 = 0 ↔ ¬ an_jp (a_ops (16 * m + i))) →
          ((v3 = 0 → (vp_in (nI (16 * m + i)) 64 ∧ wpY_set (fun r' v' => r' = a_need' (16 * m + i) ∧ i_Rel (k + 6) (f_known', f_depth, f_brief, f_outCount, f_endCount, f_ups, f_downs, f_steps, f_made, f_alive, f_gift, f_ended, f_stopped, a_length, a_lends, a_ops, a_firsts, a_seconds, a_thirds, a_need', a_loan', a_hands', a_keeps', a_come', a_numbers, a_ints, a_counts, a_fields, a_ending, a_stage, a_fMethod, a_fLine, a_held, a_lent, a_outs, a_ends) v') (f_known, f_made, f_alive, f_ups, f_downs, f_depth, f_steps, g_given, g_outcome, g_isShort, g_ran, f_outCount, f_endCount, a_ops, b_as, b_bs, a_thirds, a_length, a_lends, b_need, b_plans, b_keep, b_value, b_fields, b_alive, a_fMethod, a_fLine, b_variable, b_loan, a_outs, a_ends, b_todo, b_phase) (nI m) (nI i) v3)) ∧ (¬ v3 = 0 → ((v3 = 1 → (vp_in (nI (16 * m + i)) 64 ∧ wpY_set (fun r' v' => r' = a_keeps' (16 * m + i) ∧ i_Rel (k + 6) (f_known', f_depth, f_brief, f_outCount, f_endCount, f_ups, f_downs, f_steps, f_made, f_alive, f_gift, f_ended, f_stopped, a_length, a_lends, a_ops, a_firsts, a_seconds, a_thirds, a_need', a_loan', a_hands', a_keeps', a_come', a_numbers, a_ints, a_counts, a_fields, a_ending, a_stage, a_fMethod, a_fLine, a_held, a_lent, a_outs, a_ends) v') (f_known, f_made, f_alive, f_ups, f_downs, f_depth, f_steps, g_given, g_outcome, g_isShort, g_ran, f_outCount, f_endCount, a_ops, b_as, b_bs, a_thirds, a_length, a_lends, b_need, b_plans, b_keep, b_value, b_fields, b_alive, a_fMethod, a_fLine, b_variable, b_loan, a_outs, a_ends, b_todo, b_phase) (nI m) (nI i) v3)) ∧ (¬ v3 = 1 → ((v3 = 2 → ((r45 = 0 → wX_set_94 (fun r u' => wpY_set (fun r' v' => r' = r ∧ i_Rel (k + 6) u' v') (f_known, f_made, f_alive, f_ups, f_downs, f_depth, f_steps, g_given, g_outcome, g_isShort, g_ran, f_outCount, f_endCount, a_ops, b_as, b_bs, a_thirds, a_length, a_lends, b_need, b_plans, b_keep, b_value, b_fields, b_alive, a_fMethod, a_fLine, b_variable, b_loan, a_outs, a_ends, b_todo, b_phase) (nI m) (nI i) v3) (nI m) (nI i) v3 (nI (16 * m + i)) r47 f_known' f_depth f_brief f_outCount f_endCount f_ups f_downs f_steps f_made f_alive f_gift f_ended f_stopped a_length a_lends a_ops a_firsts a_seconds a_thirds a_need' a_loan' a_hands' a_keeps' a_come' a_numbers a_ints a_counts a_fields a_ending a_stage a_fMethod a_fLine a_held a_lent a_outs a_ends) ∧ (¬ r45 = 0 → wX_set_104 (fun r u' => wpY_set (fun r' v' => r' = r ∧ i_Rel (k + 6) u' v') (f_known, f_made, f_alive, f_ups, f_downs, f_depth, f_steps, g_given, g_outcome, g_isShort, g_ran, f_outCount, f_endCount, a_ops, b_as, b_bs, a_thirds, a_length, a_lends, b_need, b_plans, b_keep, b_value, b_fields, b_alive, a_fMethod, a_fLine, b_variable, b_loan, a_outs, a_ends, b_todo, b_phase) (nI m) (nI i) v3) (nI m) (nI i) v3 (nI (16 * m + i)) f_known' f_depth f_brief f_outCount f_endCount f_ups f_downs f_steps f_made f_alive f_gift f_ended f_stopped a_length a_lends a_ops a_firsts a_seconds a_thirds a_need' a_loan' a_hands' a_keeps' a_come' a_numbers a_ints a_counts a_fields a_ending a_stage a_fMethod a_fLine a_held a_lent a_outs a_ends))) ∧ (¬ v3 = 2 → wX_set_94 (fun r u' => wpY_set (fun r' v' => r' = r ∧ i_Rel (k + 6) u' v') (f_known, f_made, f_alive, f_ups, f_downs, f_depth, f_steps, g_given, g_outcome, g_isShort, g_ran, f_outCount, f_endCount, a_ops, b_as, b_bs, a_thirds, a_length, a_lends, b_need, b_plans, b_keep, b_value, b_fields, b_alive, a_fMethod, a_fLine, b_variable, b_loan, a_outs, a_ends, b_todo, b_phase) (nI m) (nI i) v3) (nI m) (nI i) v3 (nI (16 * m + i)) r47 f_known' f_depth f_brief f_outCount f_endCount f_ups f_downs f_steps f_made f_alive f_gift f_ended f_stopped a_length a_lends a_ops a_firsts a_seconds a_thirds a_need' a_loan' a_hands' a_keeps' a_come' a_numbers a_ints a_counts a_fields a_ending a_stage a_fMethod a_fLine a_held a_lent a_outs a_ends)))))) := by
        intro r45 r47 e45 e47
        refine br_c (fun z0 => ⟨vk, KY _ (br_f (by rw [z0]; decide) (br_t z0 ⟨vk, ?_⟩))⟩) (fun z0 => br_c (fun z1 => ⟨vk, KY _ (br_f (by rw [z1]; decide) (br_f z0 (br_t z1 ⟨vk, ?_⟩)))⟩) (fun z1 => br_c (fun z2 => br_c (fun ng => ?_) (fun g => ?_)) (fun z2 => ?_)))
        · rw [ck]
          exact ⟨nd1, hR⟩
        · rw [ck]
          by_cases hc : a_come' (16 * m + i) = 0
          · obtain ⟨q1, q2⟩ := kc0 hc
            rw [q1, q2]
            exact br_f tl_m1le ⟨rfl, hR⟩
          · have q1 := kc1 hc
            rw [q1]
            exact br_t (ky_m1 kp6).2.2.1 ⟨vk, rfl, hR⟩
        · refine br_f (by rw [z2]; decide) (KY _ (br_t z2 (br_f z0 (br_f z1 (br_t z2 (br_t z2 ?_))))))
          exact ya_goes (by omega) (fun q => absurd q (e45.mp ng)) (fun _ => br_t rfl ⟨rfl, hR⟩)
        · have hg : an_gs (a_ops (16 * m + i)) := Classical.byContradiction (fun q => g (e45.mpr q))
          refine br_t z2 ?_
          rw [nI_1]
          refine KW (i + 1) (by omega) (Or.inr hg) (fun r h => KY r (br_t z2 (br_f z0 (br_f z1 (br_t z2 (br_t z2 ?_))))))
          exact ya_goes (by omega) (fun _ => br_f tl_n1' h) (fun q => absurd hg q)
        · refine br_c (fun z3 => br_c (fun nj => ?_) (fun j => ?_)) (fun z3 => KY _ (br_f z2 (br_f z0 (br_f z1 (br_f z2 (br_f z3 ⟨rfl, hR⟩))))))
          · refine KY _ (br_f z2 (br_f z0 (br_f z1 (br_f z2 (br_t z3 (br_f z2 ?_))))))
            exact ya_jumps (by omega) (fun q => absurd q (e47.mp nj)) (fun _ => br_t rfl ⟨rfl, hR⟩)
          · have hj : an_jp (a_ops (16 * m + i)) := Classical.byContradiction (fun q => j (e47.mpr q))
            obtain ⟨c, hc, ec⟩ := an_jc hC (show 16 * m + i < 64 by omega) hj
            refine br_f z2 ⟨vk, ?_⟩
            rw [ck, ec]
            refine KW c (by omega) (Or.inl hj) (fun r h => KY r (br_f z2 (br_f z0 (br_f z1 (br_f z2 (br_t z3 (br_f z2 ?_)))))))
            refine ya_jumps (by omega) (fun _ => br_f tl_n1' ?_) (fun q => absurd hj q)
            rw [ec]
            exact h
      refine hXp _ ?_
      refine nm_r (tl_16 m i) ⟨vk, ?_⟩
      rw [ck]
      refine xa_goes (fun g => ⟨vk, xa_jumps (fun j => ?_) (fun j => ?_)⟩) (fun g => ⟨vk, xa_jumps (fun j => ?_) (fun j => ?_)⟩)
      · exact G 1 1 ⟨fun q => absurd q tl_n1', fun q => absurd g q⟩ ⟨fun q => absurd q tl_n1', fun q => absurd j q⟩
      · exact G 1 0 ⟨fun q => absurd q tl_n1', fun q => absurd g q⟩ ⟨fun _ => j, fun _ => rfl⟩
      · exact G 0 1 ⟨fun _ => g, fun _ => rfl⟩ ⟨fun q => absurd q tl_n1', fun q => absurd j q⟩
      · exact G 0 0 ⟨fun _ => g, fun _ => rfl⟩ ⟨fun _ => j, fun _ => rfl⟩
end
end
section
section
variable {f_known f_depth f_brief f_outCount f_endCount f_ups f_downs f_steps f_made f_alive f_gift f_ended f_stopped : Int32} {a_length a_lends a_ops a_firsts a_seconds a_thirds a_need a_loan a_hands a_keeps a_come a_numbers a_ints a_counts a_fields a_ending a_stage a_fMethod a_fLine a_held a_lent a_outs a_ends : Nat → Int32}
variable {g_known g_made g_living g_counted g_less g_depth g_begun g_given g_outcome g_isShort g_ran g_put g_ended : Int32} {b_ops b_as b_bs b_cs b_size b_lent b_need b_plans b_keep b_value b_fields b_alive b_method b_pc b_variable b_loan b_outs b_ends b_todo b_phase : Nat → Int32}
variable {D M E L S O m i : Nat} {rc : Nat → Nat}
/-! a line is added -/
def ad_in (x : Int32) (n : Nat) : Prop := ¬ x < 0 ∧ ¬ nI n ≤ x
theorem ad_ix {post : Int32 → Prop} {x : Int32} (n : Nat) (h1 : ad_in x n → post 1) (h0 : ¬ ad_in x n → post 0) : wpX_in post x (nI n) :=
  br_c (fun z => h0 (fun g => g.1 z)) (fun z => br_c (fun q => h0 (fun g => g.2 q)) (fun q => h1 ⟨z, q⟩))
theorem ad_iy {post : Int32 → Prop} {x : Int32} (n : Nat) (h1 : ad_in x n → post 0) (h0 : ¬ ad_in x n → post 1) : wpY_no post x (nI n) :=
  br_c (fun z => h0 (fun g => g.1 z)) (fun z => br_c (fun q => h1 ⟨z, Int32.not_le.mpr q⟩) (fun q => h0 (fun g => q (Int32.not_le.mp g.2))))
theorem ad_of {x : Int32} {n : Nat} (hn : n < 2 ^ 31) (h : ad_in x n) : ∃ j, j < n ∧ x = nI j := by
  rcases pk_ix x hn with q | q | q
  · exact absurd q h.1
  · exact absurd q h.2
  · exact q
def ad_c (o : Nat) (c : Int32) : Prop := (o = 3 ∨ o = 4 → ad_in c 3) ∧ (o = 9 ∨ o = 10 → ad_in c 16) ∧ (o = 11 → ad_in c 4)
def ad_b (o : Nat) (b : Int32) : Prop := o = 1 ∨ o = 3 ∨ o = 4 ∨ o = 11 → ad_in b 6
def ad_a (o : Nat) (a : Int32) : Prop := o ≠ 10 → o ≠ 13 → ad_in a 6
theorem ad_39 {post : Int32 → Prop} {o : Nat} {c : Int32} (ho : o < 14) (h1 : ad_c o c → post 1) (h0 : ¬ ad_c o c → post 0) : wX_fits_39 post (nI o) c := by
  have hcase : o = 0 ∨ o = 1 ∨ o = 2 ∨ o = 3 ∨ o = 4 ∨ o = 5 ∨ o = 6 ∨ o = 7 ∨ o = 8 ∨ o = 9 ∨ o = 10 ∨ o = 11 ∨ o = 12 ∨ o = 13 := by omega
  rcases hcase with rfl | rfl | rfl | rfl | rfl | rfl | rfl | rfl | rfl | rfl | rfl | rfl | rfl | rfl
  · exact br_t (by decide) (h1 ⟨fun z => by omega, fun z => by omega, fun z => by omega⟩)
  · exact br_t (by decide) (h1 ⟨fun z => by omega, fun z => by omega, fun z => by omega⟩)
  · exact br_t (by decide) (h1 ⟨fun z => by omega, fun z => by omega, fun z => by omega⟩)
  · exact br_f (by decide) (br_f (by decide) (br_t rfl (ad_ix 3 (fun g => ⟨narrow_b1, h1 ⟨fun _ => g, fun z => by omega, fun z => by omega⟩⟩) (fun g => ⟨narrow_b0, h0 (fun q => g (q.1 (by omega)))⟩))))
  · exact br_f (by decide) (br_f (by decide) (br_f (by decide) (br_t rfl (ad_ix 3 (fun g => ⟨narrow_b1, h1 ⟨fun _ => g, fun z => by omega, fun z => by omega⟩⟩) (fun g => ⟨narrow_b0, h0 (fun q => g (q.1 (by omega)))⟩)))))
  · exact br_f (by decide) (br_f (by decide) (br_f (by decide) (br_f (by decide) (br_t rfl (h1 ⟨fun z => by omega, fun z => by omega, fun z => by omega⟩)))))
  · exact br_f (by decide) (br_f (by decide) (br_f (by decide) (br_f (by decide) (br_f (by decide) (br_t rfl (h1 ⟨fun z => by omega, fun z => by omega, fun z => by omega⟩))))))
  · exact br_f (by decide) (br_f (by decide) (br_f (by decide) (br_f (by decide) (br_f (by decide) (br_f (by decide) (br_t rfl (h1 ⟨fun z => by omega, fun z => by omega, fun z => by omega⟩)))))))
  · exact br_f (by decide) (br_f (by decide) (br_f (by decide) (br_f (by decide) (br_f (by decide) (br_f (by decide) (br_f (by decide) (br_t rfl (h1 ⟨fun z => by omega, fun z => by omega, fun z => by omega⟩))))))))
  · exact br_f (by decide) (br_f (by decide) (br_f (by decide) (br_f (by decide) (br_f (by decide) (br_f (by decide) (br_f (by decide) (br_f (by decide) (br_t rfl (ad_ix 16 (fun g => ⟨narrow_b1, h1 ⟨fun z => by omega, fun _ => g, fun z => by omega⟩⟩) (fun g => ⟨narrow_b0, h0 (fun q => g (q.2.1 (by omega)))⟩))))))))))
  · exact br_f (by decide) (br_f (by decide) (br_f (by decide) (br_f (by decide) (br_f (by decide) (br_f (by decide) (br_f (by decide) (br_f (by decide) (br_f (by decide) (br_t rfl (ad_ix 16 (fun g => ⟨narrow_b1, h1 ⟨fun z => by omega, fun _ => g, fun z => by omega⟩⟩) (fun g => ⟨narrow_b0, h0 (fun q => g (q.2.1 (by omega)))⟩)))))))))))
  · exact br_f (by decide) (br_f (by decide) (br_f (by decide) (br_f (by decide) (br_f (by decide) (br_f (by decide) (br_f (by decide) (br_f (by decide) (br_f (by decide) (br_f (by decide) (br_t rfl (ad_ix 4 (fun g => ⟨narrow_b1, h1 ⟨fun z => by omega, fun z => by omega, fun _ => g⟩⟩) (fun g => ⟨narrow_b0, h0 (fun q => g (q.2.2 rfl))⟩))))))))))))
  · exact br_f (by decide) (br_t (by decide) (h1 ⟨fun z => by omega, fun z => by omega, fun z => by omega⟩))
  · exact br_f (by decide) (br_t (by decide) (h1 ⟨fun z => by omega, fun z => by omega, fun z => by omega⟩))
theorem ad_sec {post : Int32 → Prop} {o : Nat} (ho : o < 14) (h1 : (o = 1 ∨ o = 3 ∨ o = 4 ∨ o = 11) → post 1) (h0 : ¬ (o = 1 ∨ o = 3 ∨ o = 4 ∨ o = 11) → post 0) : wpX_hasSecond post (nI o) := by
  have hq : ∀ j : Nat, j < 14 → nI o = nI j → o = j := fun j hj e => tl_inj e (by omega) (by omega)
  refine br_c (fun z => h1 (Or.inl (hq 1 (by omega) z))) (fun z1 => br_c (fun z => h1 (Or.inr (Or.inl (hq 3 (by omega) z)))) (fun z2 => br_c (fun z => h1 (Or.inr (Or.inr (Or.inl (hq 4 (by omega) z))))) (fun z3 => br_c (fun z => h1 (Or.inr (Or.inr (Or.inr (hq 11 (by omega) z))))) (fun z4 => h0 (fun g => ?_)))))
  rcases g with rfl | rfl | rfl | rfl
  · exact z1 rfl
  · exact z2 rfl
  · exact z3 rfl
  · exact z4 rfl
theorem ad_21 {post : Int32 → Prop} {o : Nat} {b c : Int32} (ho : o < 14) (h1 : ad_b o b ∧ ad_c o c → post 1) (h0 : ¬ (ad_b o b ∧ ad_c o c) → post 0) : wX_fits_21 post (nI o) b c := by
  refine ad_sec ho (fun hs => br_f tl_n1' ?_) (fun hs => br_t rfl (ad_39 ho (fun g => h1 ⟨fun z => absurd z hs, g⟩) (fun g => h0 (fun q => g q.2))))
  exact ad_ix 6 (fun g => br_f tl_n1' (ad_39 ho (fun g2 => h1 ⟨fun _ => g, g2⟩) (fun g2 => h0 (fun q => g2 q.2)))) (fun g => br_t rfl (h0 (fun q => g (q.1 hs))))
theorem ad_fits {post : Int32 → Prop} {o : Nat} {a b c : Int32} (ho : o < 14) (h1 : ad_a o a ∧ ad_b o b ∧ ad_c o c → post 1) (h0 : ¬ (ad_a o a ∧ ad_b o b ∧ ad_c o c) → post 0) : wpX_fits post (nI o) a b c := by
  have hq : ∀ j : Nat, j < 14 → nI o = nI j → o = j := fun j hj e => tl_inj e (by omega) (by omega)
  refine br_c (fun z => ?_) (fun z10 => br_c (fun z => ?_) (fun z13 => ?_))
  · have e := hq 10 (by omega) z
    exact ad_21 ho (fun g => h1 ⟨fun w => absurd e w, g⟩) (fun g => h0 (fun q => g q.2))
  · have e := hq 13 (by omega) z
    exact ad_21 ho (fun g => h1 ⟨fun _ w => absurd e w, g⟩) (fun g => h0 (fun q => g q.2))
  · have n10 : o ≠ 10 := fun e => z10 (by rw [e]; rfl)
    have n13 : o ≠ 13 := fun e => z13 (by rw [e]; rfl)
    exact ad_ix 6 (fun g => br_f tl_n1' (ad_21 ho (fun g2 => h1 ⟨fun _ _ => g, g2⟩) (fun g2 => h0 (fun q => g2 q.2)))) (fun g => br_t rfl (h0 (fun q => g (q.1 n10 n13))))
/-- Y -/
theorem ad_y {post : Int32 → SY → Prop} {x1 : Int32} {o : Nat} {a b c : Int32} (ho : o < 14) (h1 : ad_a o a ∧ ad_b o b ∧ ad_c o c → wY_add_131 post x1 (nI o) a b c g_known g_made g_living g_counted g_less g_depth g_begun g_given g_outcome g_isShort g_ran g_put g_ended b_ops b_as b_bs b_cs b_size b_lent b_need b_plans b_keep b_value b_fields b_alive b_method b_pc b_variable b_loan b_outs b_ends b_todo b_phase) (h0 : ¬ (ad_a o a ∧ ad_b o b ∧ ad_c o c) → post (-1) (g_known, g_made, g_living, g_counted, g_less, g_depth, g_begun, g_given, g_outcome, g_isShort, g_ran, g_put, g_ended, b_ops, b_as, b_bs, b_cs, b_size, b_lent, b_need, b_plans, b_keep, b_value, b_fields, b_alive, b_method, b_pc, b_variable, b_loan, b_outs, b_ends, b_todo, b_phase)) :
    ((nI o = 10 → (wY_add_40 post x1 (nI o) a b c g_known g_made g_living g_counted g_less g_depth g_begun g_given g_outcome g_isShort g_ran g_put g_ended b_ops b_as b_bs b_cs b_size b_lent b_need b_plans b_keep b_value b_fields b_alive b_method b_pc b_variable b_loan b_outs b_ends b_todo b_phase)) ∧ (¬ nI o = 10 → (((nI o = 13 → (wY_add_40 post x1 (nI o) a b c g_known g_made g_living g_counted g_less g_depth g_begun g_given g_outcome g_isShort g_ran g_put g_ended b_ops b_as b_bs b_cs b_size b_lent b_need b_plans b_keep b_value b_fields b_alive b_method b_pc b_variable b_loan b_outs b_ends b_todo b_phase)) ∧ (¬ nI o = 13 → (wpY_no (fun r_39 => (((r_39 = 0 → (wY_add_40 post x1 (nI o) a b c g_known g_made g_living g_counted g_less g_depth g_begun g_given g_outcome g_isShort g_ran g_put g_ended b_ops b_as b_bs b_cs b_size b_lent b_need b_plans b_keep b_value b_fields b_alive b_method b_pc b_variable b_loan b_outs b_ends b_todo b_phase)) ∧ (¬ r_39 = 0 → (post (-1) (g_known, g_made, g_living, g_counted, g_less, g_depth, g_begun, g_given, g_outcome, g_isShort, g_ran, g_put, g_ended, b_ops, b_as, b_bs, b_cs, b_size, b_lent, b_need, b_plans, b_keep, b_value, b_fields, b_alive, b_method, b_pc, b_variable, b_loan, b_outs, b_ends, b_todo, b_phase)))))) a 6)))))) := by
  have hq : ∀ j : Nat, j < 14 → nI o = nI j → o = j := fun j hj e => tl_inj e (by omega) (by omega)
  have hq' : ∀ j : Nat, j < 14 → ¬ nI o = nI j → o ≠ j := fun j hj e w => e (by rw [w])
  have K114 : ad_a o a → ad_b o b → (o = 3 ∨ o = 4 → ad_in c 3) → (o = 9 ∨ o = 10 → ad_in c 16) → wY_add_114 post x1 (nI o) a b c g_known g_made g_living g_counted g_less g_depth g_begun g_given g_outcome g_isShort g_ran g_put g_ended b_ops b_as b_bs b_cs b_size b_lent b_need b_plans b_keep b_value b_fields b_alive b_method b_pc b_variable b_loan b_outs b_ends b_todo b_phase := by
    intro ga gb g3 g9
    refine br_c (fun z => ad_iy 4 (fun g => br_t rfl (h1 ⟨ga, gb, g3, g9, fun _ => g⟩)) (fun g => br_f tl_n1' (h0 (fun q => g (q.2.2.2.2 (hq 11 (by omega) z)))))) (fun z => h1 ⟨ga, gb, g3, g9, fun w => absurd w (hq' 11 (by omega) z)⟩)
  have K92 : ad_a o a → ad_b o b → (o = 3 ∨ o = 4 → ad_in c 3) → wY_add_92 post x1 (nI o) a b c g_known g_made g_living g_counted g_less g_depth g_begun g_given g_outcome g_isShort g_ran g_put g_ended b_ops b_as b_bs b_cs b_size b_lent b_need b_plans b_keep b_value b_fields b_alive b_method b_pc b_variable b_loan b_outs b_ends b_todo b_phase := by
    intro ga gb g3
    have K104 : (o = 9 ∨ o = 10) → wY_add_104 post x1 (nI o) a b c g_known g_made g_living g_counted g_less g_depth g_begun g_given g_outcome g_isShort g_ran g_put g_ended b_ops b_as b_bs b_cs b_size b_lent b_need b_plans b_keep b_value b_fields b_alive b_method b_pc b_variable b_loan b_outs b_ends b_todo b_phase := fun w => ad_iy 16 (fun g => br_t rfl (K114 ga gb g3 (fun _ => g))) (fun g => br_f tl_n1' (h0 (fun q => g (q.2.2.2.1 w))))
    refine br_c (fun z => K104 (Or.inl (hq 9 (by omega) z))) (fun z => br_c (fun z2 => K104 (Or.inr (hq 10 (by omega) z2))) (fun z2 => K114 ga gb g3 (fun w => ?_)))
    rcases w with w | w
    · exact absurd w (hq' 9 (by omega) z)
    · exact absurd w (hq' 10 (by omega) z2)
  have K73 : ad_a o a → ad_b o b → wY_add_73 post x1 (nI o) a b c g_known g_made g_living g_counted g_less g_depth g_begun g_given g_outcome g_isShort g_ran g_put g_ended b_ops b_as b_bs b_cs b_size b_lent b_need b_plans b_keep b_value b_fields b_alive b_method b_pc b_variable b_loan b_outs b_ends b_todo b_phase := by
    intro ga gb
    have K83 : (o = 3 ∨ o = 4) → wY_add_83 post x1 (nI o) a b c g_known g_made g_living g_counted g_less g_depth g_begun g_given g_outcome g_isShort g_ran g_put g_ended b_ops b_as b_bs b_cs b_size b_lent b_need b_plans b_keep b_value b_fields b_alive b_method b_pc b_variable b_loan b_outs b_ends b_todo b_phase := fun w => ad_iy 3 (fun g => br_t rfl (K92 ga gb (fun _ => g))) (fun g => br_f tl_n1' (h0 (fun q => g (q.2.2.1 w))))
    refine br_c (fun z => K83 (Or.inl (hq 3 (by omega) z))) (fun z => br_c (fun z2 => K83 (Or.inr (hq 4 (by omega) z2))) (fun z2 => K92 ga gb (fun w => ?_)))
    rcases w with w | w
    · exact absurd w (hq' 3 (by omega) z)
    · exact absurd w (hq' 4 (by omega) z2)
  have K40 : ad_a o a → wY_add_40 post x1 (nI o) a b c g_known g_made g_living g_counted g_less g_depth g_begun g_given g_outcome g_isShort g_ran g_put g_ended b_ops b_as b_bs b_cs b_size b_lent b_need b_plans b_keep b_value b_fields b_alive b_method b_pc b_variable b_loan b_outs b_ends b_todo b_phase := by
    intro ga
    have K61 : (o = 1 ∨ o = 3 ∨ o = 4 ∨ o = 11) → wY_add_61 post x1 (nI o) a b c g_known g_made g_living g_counted g_less g_depth g_begun g_given g_outcome g_isShort g_ran g_put g_ended b_ops b_as b_bs b_cs b_size b_lent b_need b_plans b_keep b_value b_fields b_alive b_method b_pc b_variable b_loan b_outs b_ends b_todo b_phase := fun w => ad_iy 6 (fun g => br_t rfl (K73 ga (fun _ => g))) (fun g => br_f tl_n1' (h0 (fun q => g (q.2.1 w))))
    refine br_c (fun z => K61 (Or.inl (hq 1 (by omega) z))) (fun z1 => br_c (fun z => K61 (Or.inr (Or.inl (hq 3 (by omega) z)))) (fun z2 => br_c (fun z => K61 (Or.inr (Or.inr (Or.inl (hq 4 (by omega) z))))) (fun z3 => br_c (fun z => K61 (Or.inr (Or.inr (Or.inr (hq 11 (by omega) z))))) (fun z4 => K73 ga (fun w => ?_)))))
    rcases w with w | w | w | w
    · exact absurd w (hq' 1 (by omega) z1)
    · exact absurd w (hq' 3 (by omega) z2)
    · exact absurd w (hq' 4 (by omega) z3)
    · exact absurd w (hq' 11 (by omega) z4)
  refine br_c (fun z => K40 (fun w => absurd (hq 10 (by omega) z) w)) (fun z10 => br_c (fun z => K40 (fun _ w => absurd (hq 13 (by omega) z) w)) (fun z13 => ?_))
  exact ad_iy 6 (fun g => br_t rfl (K40 (fun _ _ => g))) (fun g => br_f tl_n1' (h0 (fun q => g (q.1 (hq' 10 (by omega) z10) (hq' 13 (by omega) z13)))))
theorem ad_C {o l : Nat} {a b c : Int32} (hC : cd_C a_length a_ops a_firsts a_seconds a_thirds b_as b_bs) (hm : m < 4) (hl : l < 16) (ho : o < 14) (hv : ad_a o a ∧ ad_b o b ∧ ad_c o c) :
    cd_C (upd a_length m (nI (l + 1))) (upd a_ops (16 * m + l) (nI o)) (upd a_firsts (16 * m + l) (vp_nar .byte a.toInt8.toInt32)) (upd a_seconds (16 * m + l) (vp_nar .byte b.toInt8.toInt32)) (upd a_thirds (16 * m + l) c) (upd b_as (16 * m + l) a) (upd b_bs (16 * m + l) b) := by
  refine ⟨fun m' hm' => ?_, fun k hk => ?_⟩
  · by_cases z : m' = m
    · exact ⟨l + 1, by omega, by rw [z, tl_us]⟩
    · rw [tl_un z]; exact hC.1 m' hm'
  · by_cases z : k = 16 * m + l
    · unfold cd_op
      rw [z, tl_us, tl_us, tl_us, tl_us, tl_us, tl_us]
      obtain ⟨va, vb, vc3, vc16, vc4⟩ := hv
      refine ⟨o, ho, rfl, fun w1 w2 => ?_, fun w => ?_, fun w => ?_, fun w => ?_, fun w => ?_⟩
      · obtain ⟨j, hj, e⟩ := ad_of (by omega) (va w1 w2)
        exact ⟨j, hj, by rw [e, tl_nb (by omega)], e⟩
      · obtain ⟨j, hj, e⟩ := ad_of (by omega) (vb w)
        exact ⟨j, hj, by rw [e, tl_nb (by omega)], e⟩
      · obtain ⟨j, hj, e⟩ := ad_of (by omega) (vc3 w)
        exact ⟨j, hj, e⟩
      · obtain ⟨j, hj, e⟩ := ad_of (by omega) (vc16 w)
        exact ⟨j, hj, e⟩
      · obtain ⟨j, hj, e⟩ := ad_of (by omega) (vc4 w)
        exact ⟨j, hj, e⟩
    · unfold cd_op
      rw [tl_un z, tl_un z, tl_un z, tl_un z, tl_un z, tl_un z]
      exact hC.2 k hk
theorem i_vc_add {k : Nat} {u : SX} {v : SY} (I : i_Rel k u v) (hk : k + 6 ≤ 3072) (v1 : Int32) (v2 : Int32) (v3 : Int32) (v4 : Int32) (v5 : Int32) : wpX_add (fun r u' => wpY_add (fun r' v' => r' = r ∧ i_Rel (k + 6) u' v') v v1 v2 v3 v4 v5) u v1 v2 v3 v4 v5 := by
  refine i_el (P := fun u v => wpX_add (fun r u' => wpY_add (fun r' v' => r' = r ∧ i_Rel (k + 6) u' v') v v1 v2 v3 v4 v5) u v1 v2 v3 v4 v5) ?_ I
  intro f_known f_depth f_brief f_outCount f_endCount f_ups f_downs f_steps f_made f_alive f_gift f_ended f_stopped a_length a_lends a_ops a_firsts a_seconds a_thirds a_need a_loan a_hands a_keeps a_come a_numbers a_ints a_counts a_fields a_ending a_stage a_fMethod a_fLine a_held a_lent a_outs a_ends g_given g_outcome g_isShort g_ran b_as b_bs b_need b_plans b_keep b_value b_fields b_alive b_variable b_loan b_todo b_phase Q
  unfold wpX_add
  rcases ix_c v1 (n := 4) (by omega) with h | ⟨m, hm, e, h1, h2⟩
  · refine ix_0 h (br_t rfl ?_)
    unfold wpY_add
    exact iy_1 h (br_f tl_n1' ⟨rfl, i_in Q⟩)
  · subst e
    have cm : (nI m).toNatClampNeg = m := nI_clamp (by omega)
    have vm : vp_in (nI m) 4 := vp_in_nI hm (by omega)
    have hl := cd_len Q.1 hm
    refine ix_1 h1 h2 (br_f tl_n1' ?_)
    rcases ix_c v2 (n := 14) (by omega) with g | ⟨o, ho, e2, g1, g2⟩
    · refine ix_0 g (br_t rfl ?_)
      unfold wpY_add
      exact iy_0 h1 h2 (br_t rfl (iy_1 g (br_f tl_n1' ⟨rfl, i_in Q⟩)))
    · subst e2
      refine ix_1 g1 g2 (br_f tl_n1' ?_)
      refine ad_fits ho (fun hv => br_f tl_n1' ?_) (fun hv => br_t rfl ?_)
      · rw [cm, hl.2]
        refine ⟨vm, ?_⟩
        by_cases h16 : rn_len a_length m = 16
        · refine br_t (by rw [h16]; rfl) ?_
          unfold wpY_add
          refine iy_0 h1 h2 (br_t rfl (iy_0 g1 g2 (br_t rfl (ad_y ho (fun _ => ?_) (fun q => absurd hv q)))))
          unfold wY_add_131
          rw [cm, hl.2]
          exact ⟨vm, br_t (by rw [h16]; rfl) ⟨rfl, i_in Q⟩⟩
        · have hl16 : rn_len a_length m < 16 := by have := hl.1; omega
          have hn16 : ¬ nI (rn_len a_length m) = 16 := fun z => h16 (tl_inj (b := 16) z (by omega) (by omega))
          have ck : (nI (16 * m + rn_len a_length m)).toNatClampNeg = 16 * m + rn_len a_length m := nI_clamp (by omega)
          have vk : vp_in (nI (16 * m + rn_len a_length m)) 64 := vp_in_nI (by omega) (by omega)
          obtain ⟨lm, elm⟩ : ∃ lm, lm = rn_len a_length m := ⟨_, rfl⟩
          rw [← elm] at hn16 ck vk hl16
          rw [← elm]
          refine br_f hn16 ⟨vm, vm, nm_r (e' := upd a_length m (nI (lm + 1))) (by rw [nI_1, tl_nb (by omega)]) (nm_r (e' := nI (16 * m + lm)) (tl_16 m lm) ?_)⟩
          rw [ck, tl_nb (show o < 128 by omega)]
          refine ⟨vk, nm_e ⟨vk, nm_e ⟨vk, nm_e ⟨vk, nm_e ⟨vm, ?_⟩⟩⟩⟩⟩
          rw [tl_us]
          unfold wpY_add
          refine iy_0 h1 h2 (br_t rfl (iy_0 g1 g2 (br_t rfl (ad_y ho (fun _ => ?_) (fun q => absurd hv q)))))
          unfold wY_add_131
          rw [cm, hl.2, ← elm]
          refine ⟨vm, br_f hn16 ⟨vm, vm, nm_r (e' := upd a_length m (nI (lm + 1))) (by rw [nI_1]) (nm_r (e' := nI (16 * m + lm)) (tl_16 m lm) ?_)⟩⟩
          rw [ck]
          refine ⟨vk, nm_e ⟨vk, nm_e ⟨vk, nm_e ⟨vk, nm_e ⟨vm, ?_, ?_⟩⟩⟩⟩⟩
          · rw [tl_us]
          · obtain ⟨hC, hK, R⟩ := Q
            exact i_in ⟨ad_C hC hm hl16 ho hv, fun z => absurd rfl z, R⟩
      · unfold wpY_add
        exact iy_0 h1 h2 (br_t rfl (iy_0 g1 g2 (br_t rfl (ad_y ho (fun q => absurd q hv) (fun _ => ⟨rfl, i_in Q⟩)))))
end
end
