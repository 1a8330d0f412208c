section
/-! base: rows of the kit pasted (PURE-ROWS, BITS), then own -/
theorem pk_us {f : Nat → Int32} {k : Nat} {x : Int32} : upd f k x k = x := if_pos rfl
theorem pk_un {f : Nat → Int32} {k j : Nat} {x : Int32} (h : j ≠ k) : upd f k x j = f j := if_neg h
theorem pk_sub {a b : Nat} (h : b ≤ a) : nI a - nI b = nI (a - b) := by
  obtain ⟨c, rfl⟩ : ∃ c, a = c + b := ⟨a - b, by omega⟩
  rw [← nI_add, Int32.add_sub_cancel, Nat.add_sub_cancel]
theorem pk_m1 (n : Nat) : nI (n + 1) + (-1) = nI n := by
  rw [← nI_1, Int32.add_assoc, show (1 : Int32) + (-1) = 0 from rfl, Int32.add_zero]
theorem pk_mul (a b : Nat) : nI a * nI b = nI (a * b) := (Int32.ofNat_mul a b).symm
theorem pk_div {a d : Nat} (ha : a < 2 ^ 31) (h0 : 0 < d) (hd : d < 2 ^ 31) : nI a / nI d = nI (a / d) := by
  apply Int32.toInt_inj.mp
  rw [lg_idiv_nonneg (by rw [nI_toInt ha]; omega) (by rw [nI_toInt hd]; omega), nI_toInt ha, nI_toInt hd, nI_toInt (Nat.lt_of_le_of_lt (Nat.div_le_self a d) ha)]
  first | rfl | exact (Int.natCast_ediv _ _).symm
theorem pk_rem {a d : Nat} (ha : a < 2 ^ 31) (h0 : 0 < d) (hd : d < 2 ^ 31) : nI a - nI a / nI d * nI d = nI (a % d) := by
  rw [pk_div ha h0 hd, pk_mul, pk_sub (Nat.div_mul_le_self a d)]
  exact congrArg nI (by have := Nat.div_add_mod' a d; omega)
theorem pk_sub_toInt {a b : Nat} (ha : a < 2 ^ 30) (hb : b < 2 ^ 30) : (nI a - nI b).toInt = (a : Int) - b := by
  rw [Int32.toInt_sub, nI_toInt (by omega), nI_toInt (by omega)]
  exact Int.bmod_eq_of_le (by omega) (by omega)
theorem pk_sneg {a b : Nat} (hb : b < 2 ^ 30) (h : a < b) : nI a - nI b < 0 := by
  rw [Int32.lt_iff_toInt_lt, pk_sub_toInt (by omega) hb, show (0 : Int32).toInt = 0 from by decide]
  omega
theorem pk_ix (x : Int32) {n : Nat} (hn : n < 2 ^ 31) : x < 0 ∨ nI n ≤ x ∨ ∃ j : Nat, j < n ∧ x = nI j := by
  by_cases h : x < 0
  · exact Or.inl h
  · obtain ⟨j, hj, rfl⟩ := nI_of h
    by_cases h2 : j < n
    · exact Or.inr (Or.inr ⟨j, h2, rfl⟩)
    · exact Or.inr (Or.inl (nI_le (by omega) hj))
theorem pk_le {x y : Int32} {A B : Prop} (a b : Nat) (f : a ≤ b → A) (g : b < a → B) (hx : x = nI a := by rfl) (hy : y = nI b := by rfl) (ha : a < 2 ^ 31 := by omega) (hb : b < 2 ^ 31 := by omega) : (x ≤ y → A) ∧ (¬ x ≤ y → B) := by
  subst hx hy
  rw [nI_leI ha hb]
  exact ⟨f, fun z => g (by omega)⟩
theorem pk_lt {x y : Int32} {A B : Prop} (a b : Nat) (f : a < b → A) (g : b ≤ a → B) (hx : x = nI a := by rfl) (hy : y = nI b := by rfl) (ha : a < 2 ^ 31 := by omega) (hb : b < 2 ^ 31 := by omega) : (x < y → A) ∧ (¬ x < y → B) := by
  subst hx hy
  rw [nI_ltI ha hb]
  exact ⟨f, fun z => g (by omega)⟩
theorem pk_eq {x y : Int32} {A B : Prop} (a b : Nat) (f : a = b → A) (g : a ≠ b → B) (hx : x = nI a := by rfl) (hy : y = nI b := by rfl) (ha : a < 2 ^ 31 := by omega) (hb : b < 2 ^ 31 := by omega) : (x = y → A) ∧ (¬ x = y → B) := by
  subst hx hy
  rw [nI_eq ha hb]
  exact ⟨f, g⟩
theorem pk_in {x : Int32} (n N : Nat) (h : n < N) (hx : x = nI n := by rfl) (hN : N < 2 ^ 31 := by omega) : vp_in x N := by
  subst hx
  exact vp_in_nI h hN
theorem pk_cl {x : Int32} (n : Nat) (hx : x = nI n := by rfl) (h : n < 2 ^ 31 := by omega) : x.toNatClampNeg = n := by
  subst hx
  exact nI_clamp h
theorem pk_tn {n : Nat} (h : n < 2 ^ 32) : (nI n).toBitVec.toNat = n := Nat.mod_eq_of_lt h
theorem pk_and (x : Int32) {m : Int32} (k : Nat) (hm : m.toBitVec.toNat = 2 ^ k - 1) : x &&& m = nI (x.toBitVec.toNat % 2 ^ k) := by
  apply Int32.toBitVec_inj.mp
  apply BitVec.eq_of_toNat_eq
  rw [Int32.toBitVec_and, BitVec.toNat_and, hm, Nat.and_two_pow_sub_one_eq_mod]
  show _ = (BitVec.ofNat 32 _).toNat
  rw [BitVec.toNat_ofNat]
  exact (Nat.mod_eq_of_lt (Nat.lt_of_le_of_lt (Nat.mod_le _ _) x.toBitVec.isLt)).symm
theorem pk_andN {n : Nat} (h : n < 2 ^ 32) {m : Int32} (k : Nat) (hm : m.toBitVec.toNat = 2 ^ k - 1) : nI n &&& m = nI (n % 2 ^ k) := by
  rw [pk_and _ k hm, pk_tn h]
theorem pk_andE (x : Int32) {m : Int32} (k : Nat) (hm : m.toBitVec.toNat = 2 ^ k - 1) : ∃ j : Nat, j < 2 ^ k ∧ x &&& m = nI j := ⟨_, Nat.mod_lt _ (Nat.two_pow_pos k), pk_and x k hm⟩
theorem pk_andIn (x : Int32) {m : Int32} (k : Nat) (hm : m.toBitVec.toNat = 2 ^ k - 1) (hk : k ≤ 30) : vp_in (x &&& m) (2 ^ k) := by
  obtain ⟨j, hj, e⟩ := pk_andE x k hm
  rw [e]
  exact vp_in_nI hj (Nat.lt_of_le_of_lt (Nat.pow_le_pow_right (by decide) hk) (by decide))
theorem pk_shl (a s : Int32) (k : Nat) (hs : (s.toBitVec.smod 32).toNat = k) : (a <<< s).toBitVec.toNat = a.toBitVec.toNat * 2 ^ k % 2 ^ 32 := by
  show (a.toBitVec <<< (s.toBitVec.smod 32).toNat).toNat = _
  rw [hs, BitVec.toNat_shiftLeft, Nat.shiftLeft_eq]
theorem pk_shlN {n : Nat} (s : Int32) (k : Nat) (hs : (s.toBitVec.smod 32).toNat = k) (h : n * 2 ^ k < 2 ^ 32) : nI n <<< s = nI (n * 2 ^ k) := by
  apply Int32.toBitVec_inj.mp
  apply BitVec.eq_of_toNat_eq
  have hn : n < 2 ^ 32 := Nat.lt_of_le_of_lt (Nat.le_mul_of_pos_right n (Nat.two_pow_pos k)) h
  rw [pk_shl _ _ k hs, pk_tn hn, pk_tn h, Nat.mod_eq_of_lt h]
theorem pk_shr (a s : Int32) (k : Nat) (hs : (s.toBitVec.smod 32).toNat = k) : (a >>> s).toInt = a.toInt >>> k := by
  show (a.toBitVec.sshiftRight (s.toBitVec.smod 32).toNat).toInt = _
  rw [hs, BitVec.toInt_sshiftRight]
  rfl
theorem pk_shrN {n : Nat} (h : n < 2 ^ 31) (s : Int32) (k : Nat) (hs : (s.toBitVec.smod 32).toNat = k) : nI n >>> s = nI (n / 2 ^ k) := by
  apply Int32.toInt_inj.mp
  have h2 : n / 2 ^ k ≤ n := Nat.div_le_self _ _
  rw [pk_shr _ _ k hs, nI_toInt h, nI_toInt (by omega), Int.shiftRight_eq_div_pow]
  rfl
def bt (x : Int32) (i : Nat) : Bool := x.toBitVec.getLsbD i
theorem b_ext {x y : Int32} (h : ∀ i, i < 32 → bt x i = bt y i) : x = y := Int32.toBitVec_inj.mp (BitVec.eq_of_getLsbD_eq (fun i hi => h i hi))
theorem b_or (x y : Int32) (i : Nat) : bt (x ||| y) i = (bt x i || bt y i) := by unfold bt; rw [Int32.toBitVec_or, BitVec.getLsbD_or]
theorem b_and (x y : Int32) (i : Nat) : bt (x &&& y) i = (bt x i && bt y i) := by unfold bt; rw [Int32.toBitVec_and, BitVec.getLsbD_and]
theorem b_xor (x y : Int32) (i : Nat) : bt (x ^^^ y) i = (bt x i ^^ bt y i) := by unfold bt; rw [Int32.toBitVec_xor, BitVec.getLsbD_xor]
theorem b_big {x : Int32} {i : Nat} (h : 32 ≤ i) : bt x i = false := BitVec.getLsbD_of_ge _ _ h
theorem b_255 (i : Nat) : bt 255 i = decide (i < 8) := by
  rcases Nat.lt_or_ge i 32 with h | h
  · exact (by decide +kernel : ∀ i, i < 32 → bt 255 i = decide (i < 8)) i h
  · rw [b_big h, decide_eq_false (by omega)]
theorem b_65535 (i : Nat) : bt 65535 i = decide (i < 16) := by
  rcases Nat.lt_or_ge i 32 with h | h
  · exact (by decide +kernel : ∀ i, i < 32 → bt 65535 i = decide (i < 16)) i h
  · rw [b_big h, decide_eq_false (by omega)]
theorem b_m1 : ∀ i, i < 32 → bt (-1) i = true := by decide +kernel
theorem b_0 (i : Nat) : bt 0 i = false := BitVec.getLsbD_zero
theorem s_l : ∀ n, n < 32 → ((nI n &&& 31).toBitVec.smod 32).toNat = n := by decide +kernel
theorem s_u : ∀ n, n < 32 → (((nI n).toUInt32 &&& Int32.toUInt32 31).toBitVec % 32).toNat = n := by decide +kernel
theorem b_shl (n : Nat) (hn : n < 32) (x : Int32) {i : Nat} (hi : i < 32) : bt (x <<< (nI n &&& 31)) i = (decide (n ≤ i) && bt x (i - n)) := by
  unfold bt
  rw [Int32.toBitVec_shiftLeft]
  show (x.toBitVec <<< ((nI n &&& 31).toBitVec.smod 32).toNat).getLsbD i = _
  rw [s_l n hn, BitVec.getLsbD_shiftLeft]
  rcases Nat.lt_or_ge i n with h | h
  · simp [h, Nat.not_le.mpr h]
  · simp [hi, h, Nat.not_lt.mpr h]
theorem b_ushr (n : Nat) (hn : n < 32) (x : Int32) (i : Nat) : bt ((x.toUInt32 >>> ((nI n).toUInt32 &&& Int32.toUInt32 31)).toInt32) i = bt x (n + i) := by
  show (x.toUInt32 >>> ((nI n).toUInt32 &&& Int32.toUInt32 31)).toBitVec.getLsbD i = x.toUInt32.toBitVec.getLsbD (n + i)
  rw [UInt32.toBitVec_shiftRight]
  show (x.toUInt32.toBitVec >>> (((nI n).toUInt32 &&& Int32.toUInt32 31).toBitVec % 32).toNat).getLsbD i = _
  rw [s_u n hn, BitVec.getLsbD_ushiftRight]
theorem b_sshr (n : Nat) (hn : n < 32) (x : Int32) {i : Nat} (hi : i < 32) : bt (x >>> (nI n &&& 31)) i = if n + i < 32 then bt x (n + i) else bt x 31 := by
  unfold bt
  rw [Int32.toBitVec_shiftRight]
  show (x.toBitVec.sshiftRight ((nI n &&& 31).toBitVec.smod 32).toNat).getLsbD i = _
  rw [s_l n hn, BitVec.getLsbD_sshiftRight, BitVec.msb_eq_getLsbD_last]
  simp [hi]
theorem b_shl8 (x : Int32) {i : Nat} (hi : i < 32) : bt (x <<< ((8 : Int32) &&& 31)) i = (decide (8 ≤ i) && bt x (i - 8)) := b_shl 8 (by omega) x hi
theorem b_shl16 (x : Int32) {i : Nat} (hi : i < 32) : bt (x <<< ((16 : Int32) &&& 31)) i = (decide (16 ≤ i) && bt x (i - 16)) := b_shl 16 (by omega) x hi
theorem b_shl24 (x : Int32) {i : Nat} (hi : i < 32) : bt (x <<< ((24 : Int32) &&& 31)) i = (decide (24 ≤ i) && bt x (i - 24)) := b_shl 24 (by omega) x hi
theorem b_sshr8 (x : Int32) {i : Nat} (hi : i < 32) : bt (x >>> ((8 : Int32) &&& 31)) i = if 8 + i < 32 then bt x (8 + i) else bt x 31 := b_sshr 8 (by omega) x hi
theorem nx_and (a b : Nat) : nI a &&& nI b = nI (a &&& b) := by
  apply Int32.toBitVec_inj.1
  show BitVec.ofNat 32 a &&& BitVec.ofNat 32 b = BitVec.ofNat 32 (a &&& b)
  apply BitVec.eq_of_getLsbD_eq
  intro i hi
  simp [hi]
theorem nx_xor (a b : Nat) : nI a ^^^ nI b = nI (a ^^^ b) := by
  apply Int32.toBitVec_inj.1
  show BitVec.ofNat 32 a ^^^ BitVec.ofNat 32 b = BitVec.ofNat 32 (a ^^^ b)
  apply BitVec.eq_of_getLsbD_eq
  intro i hi
  simp [hi]
/-! own: numbers -/
theorem ab_ne1 {a : Nat} (h : a < 2 ^ 31) : ¬ nI a = -1 := by
  intro e
  have := nI_pos (n := a) h
  rw [e] at this
  exact this (by decide)
theorem ab_ne1' {a : Nat} (h : a < 2 ^ 31) : ¬ (-1 : Int32) = nI a := fun e => ab_ne1 h e.symm
theorem ab_im {a b : Nat} (h : nI a = nI b) (ha : a < 2 ^ 31) (hb : b < 2 ^ 31) : a = b := (nI_eq ha hb).mp h
theorem ab_n1 : (-1 : Int32) < 0 := by decide
theorem ab_n1' : ¬ (0 : Int32) ≤ -1 := by decide
def ab_W (x : Int32) : Prop := ∃ n : Nat, n < 65536 ∧ x = nI n
theorem ab_Wand (x : Int32) : ab_W (x &&& 65535) := by
  obtain ⟨j, hj, e⟩ := pk_andE x (m := 65535) 16 (by decide)
  exact ⟨j, by omega, e⟩
theorem ab_W0 : ab_W 0 := ⟨0, by decide, rfl⟩
theorem ab_Wn {n : Nat} (h : n < 65536) : ab_W (nI n) := ⟨n, h, rfl⟩
theorem ab_W15 (x : Int32) : ∃ j : Nat, j < 16 ∧ x &&& 15 = nI j := by
  obtain ⟨j, hj, e⟩ := pk_andE x (m := 15) 4 (by decide)
  exact ⟨j, by omega, e⟩
theorem ab_Wup {a : Nat → Int32} {k : Nat} {x : Int32} (h : ∀ j, ab_W (a j)) (hx : ab_W x) : ∀ j, ab_W (upd a k x j) := by
  intro j
  by_cases e : j = k
  · rw [e, pk_us]; exact hx
  · rw [pk_un e]; exact h j
theorem ab_vb0 : vp_nar .boolean 0 = 0 := by decide
theorem ab_vb1 : vp_nar .boolean 1 = 1 := by decide
theorem ab_upid {a : Nat → Int32} {k : Nat} {x : Int32} (h : a k = x) : upd a k x = a := by
  funext j
  by_cases e : j = k
  · rw [e, pk_us]; exact h.symm
  · rw [pk_un e]
theorem ab_lt {a b : Nat} (h : a < b) (hb : b < 2 ^ 31) : nI a < nI b := nI_lt h hb
theorem ab_nle {a b : Nat} (h : a < b) (hb : b < 2 ^ 31) : ¬ nI b ≤ nI a := nI_ge h hb
theorem ab_x2 (s : Nat) : nI s * 2 = nI (s * 2) := pk_mul s 2
theorem ab_x21 (s : Nat) : nI s * 2 + 1 = nI (s * 2 + 1) := by rw [ab_x2, nI_1]
theorem ab_x16 (s : Nat) : nI s * 16 = nI (s * 16) := pk_mul s 16
theorem ab_W_and {x : Int32} {y : Int32} (hx : ab_W x) : ab_W (x &&& y) := by
  obtain ⟨n, hn, rfl⟩ := hx
  have e : nI n &&& y = (nI n &&& y) &&& 65535 := by
    apply b_ext
    intro i hi
    rw [b_and, b_and, b_and, b_65535]
    by_cases h : i < 16
    · rw [decide_eq_true h, Bool.and_true]
    · have : bt (nI n) i = false := by
        unfold bt
        show (BitVec.ofNat 32 n).getLsbD i = false
        rw [BitVec.getLsbD_ofNat, Nat.testBit_lt_two_pow (Nat.lt_of_lt_of_le hn (Nat.pow_le_pow_right (n := 2) (by decide) (by omega : 16 ≤ i))), Bool.and_false]
      rw [this, Bool.false_and, Bool.false_and]
  rw [e]
  exact ab_Wand _
theorem ab_Whi {x : Int32} (hx : ab_W x) {i : Nat} (h : 16 ≤ i) : bt x i = false := by
  obtain ⟨n, hn, rfl⟩ := hx
  unfold bt
  show (BitVec.ofNat 32 n).getLsbD i = false
  rw [BitVec.getLsbD_ofNat, Nat.testBit_lt_two_pow (Nat.lt_of_lt_of_le hn (Nat.pow_le_pow_right (n := 2) (by decide) h)), Bool.and_false]
theorem ab_Wof {x : Int32} (h : ∀ i, 16 ≤ i → bt x i = false) : ab_W x := by
  have e : x = x &&& 65535 := by
    apply b_ext
    intro i hi
    rw [b_and, b_65535]
    by_cases hh : i < 16
    · rw [decide_eq_true hh, Bool.and_true]
    · rw [h i (by omega), Bool.false_and]
  rw [e]
  exact ab_Wand _
theorem ab_Wor {x y : Int32} (hx : ab_W x) (hy : ab_W y) : ab_W (x ||| y) :=
  ab_Wof fun i hi => by rw [b_or, ab_Whi hx hi, ab_Whi hy hi]; rfl
theorem ab_Wxor {x y : Int32} (hx : ab_W x) (hy : ab_W y) : ab_W (x ^^^ y) :=
  ab_Wof fun i hi => by rw [b_xor, ab_Whi hx hi, ab_Whi hy hi]; rfl
end
section
/-! the flags, pure -/
def fg_zb (fb zp zr : Int32) : Int32 := if zp = 0 then fb &&& 1 else if zr = 0 then 1 else 0
def fg_nb (fb zp zr : Int32) : Int32 := if zp = 0 then (fb >>> ((1 : Int32) &&& 31)) &&& 1 else (zr >>> ((15 : Int32) &&& 31)) &&& 1
def fg_cb (fb ck cw : Int32) : Int32 := if ck = 1 then (if cw ≤ 65535 then 0 else 1) else if ck = 2 then (if 0 ≤ cw then 0 else 1) else (fb >>> ((2 : Int32) &&& 31)) &&& 1
def fg_vb (fb ck cl cr cw : Int32) : Int32 := if ck = 1 then (((cl ^^^ (cw &&& 65535)) &&& (cr ^^^ (cw &&& 65535))) >>> ((15 : Int32) &&& 31)) &&& 1 else if ck = 2 then (((cl ^^^ cr) &&& (cl ^^^ (cw &&& 65535))) >>> ((15 : Int32) &&& 31)) &&& 1 else (fb >>> ((3 : Int32) &&& 31)) &&& 1
def fg_L (z n c v : Int32) : Int32 := ((z ||| (n <<< ((1 : Int32) &&& 31))) ||| (c <<< ((2 : Int32) &&& 31))) ||| (v <<< ((3 : Int32) &&& 31))
def fg_F (fb zp zr ck cl cr cw : Int32) : Int32 := fg_L (fg_zb fb zp zr) (fg_nb fb zp zr) (fg_cb fb ck cw) (fg_vb fb ck cl cr cw)
def fg_B (x : Int32) : Prop := x = 0 ∨ x = 1
theorem fg_B0 : fg_B 0 := Or.inl rfl
theorem fg_B1 : fg_B 1 := Or.inr rfl
theorem fg_and1 (x : Int32) : fg_B (x &&& 1) := by
  obtain ⟨j, hj, e⟩ := pk_andE x (m := 1) 1 (by decide)
  rw [e]
  have : j = 0 ∨ j = 1 := by omega
  rcases this with rfl | rfl
  · exact Or.inl rfl
  · exact Or.inr rfl
theorem fg_ite {c : Prop} [Decidable c] {a b : Int32} (ha : fg_B a) (hb : fg_B b) : fg_B (if c then a else b) := by
  by_cases h : c
  · rw [if_pos h]; exact ha
  · rw [if_neg h]; exact hb
theorem fg_zbB (fb zp zr : Int32) : fg_B (fg_zb fb zp zr) := fg_ite (fg_and1 _) (fg_ite fg_B1 fg_B0)
theorem fg_nbB (fb zp zr : Int32) : fg_B (fg_nb fb zp zr) := fg_ite (fg_and1 _) (fg_and1 _)
theorem fg_cbB (fb ck cw : Int32) : fg_B (fg_cb fb ck cw) := fg_ite (fg_ite fg_B0 fg_B1) (fg_ite (fg_ite fg_B0 fg_B1) (fg_and1 _))
theorem fg_vbB (fb ck cl cr cw : Int32) : fg_B (fg_vb fb ck cl cr cw) := fg_ite (fg_and1 _) (fg_ite (fg_and1 _) (fg_and1 _))
def fg_sf (fl bit on : Int32) : Int32 := if on = 0 then fl &&& (15 - bit) else (fl &&& (15 - bit)) ||| bit
theorem fg_s1 {z n c v on : Int32} (hz : fg_B z) (hn : fg_B n) (hc : fg_B c) (hv : fg_B v) (ho : fg_B on) : fg_sf (fg_L z n c v) 1 on = fg_L on n c v := by
  rcases hz with rfl | rfl <;> rcases hn with rfl | rfl <;> rcases hc with rfl | rfl <;> rcases hv with rfl | rfl <;> rcases ho with rfl | rfl <;> decide +kernel
theorem fg_s2 {z n c v on : Int32} (hz : fg_B z) (hn : fg_B n) (hc : fg_B c) (hv : fg_B v) (ho : fg_B on) : fg_sf (fg_L z n c v) 2 on = fg_L z on c v := by
  rcases hz with rfl | rfl <;> rcases hn with rfl | rfl <;> rcases hc with rfl | rfl <;> rcases hv with rfl | rfl <;> rcases ho with rfl | rfl <;> decide +kernel
theorem fg_s4 {z n c v on : Int32} (hz : fg_B z) (hn : fg_B n) (hc : fg_B c) (hv : fg_B v) (ho : fg_B on) : fg_sf (fg_L z n c v) 4 on = fg_L z n on v := by
  rcases hz with rfl | rfl <;> rcases hn with rfl | rfl <;> rcases hc with rfl | rfl <;> rcases hv with rfl | rfl <;> rcases ho with rfl | rfl <;> decide +kernel
theorem fg_s8 {z n c v on : Int32} (hz : fg_B z) (hn : fg_B n) (hc : fg_B c) (hv : fg_B v) (ho : fg_B on) : fg_sf (fg_L z n c v) 8 on = fg_L z n c on := by
  rcases hz with rfl | rfl <;> rcases hn with rfl | rfl <;> rcases hc with rfl | rfl <;> rcases hv with rfl | rfl <;> rcases ho with rfl | rfl <;> decide +kernel
theorem fg_b1 : ∀ i, i < 32 → bt 1 i = decide (i = 0) := by decide +kernel
theorem fg_b15 : ∀ i, i < 32 → bt 32768 i = decide (i = 15) := by decide +kernel
theorem fg_15 (t : Int32) : (t >>> ((15 : Int32) &&& 31)) &&& 1 = if t &&& 32768 = 0 then 0 else 1 := by
  cases hb : bt t 15 with
  | true =>
    have h1 : ¬ t &&& 32768 = 0 := by
      intro e
      have h2 : bt (t &&& 32768) 15 = true := by rw [b_and, hb, fg_b15 15 (by omega)]; rfl
      rw [e, b_0] at h2
      cases h2
    rw [if_neg h1]
    apply b_ext
    intro i hi
    rw [b_and, fg_b1 i hi]
    by_cases h0 : i = 0
    · subst h0
      have h3 : bt (t >>> ((15 : Int32) &&& 31)) 0 = if 15 + 0 < 32 then bt t (15 + 0) else bt t 31 := b_sshr 15 (by omega) t (by omega)
      rw [h3, if_pos (by omega)]
      show (bt t 15 && _) = _
      rw [hb]; rfl
    · rw [decide_eq_false h0, Bool.and_false]
  | false =>
    have h1 : t &&& 32768 = 0 := by
      apply b_ext
      intro i hi
      rw [b_and, fg_b15 i hi, b_0]
      by_cases h0 : i = 15
      · rw [h0, hb, Bool.false_and]
      · rw [decide_eq_false h0, Bool.and_false]
    rw [if_pos h1]
    apply b_ext
    intro i hi
    rw [b_and, fg_b1 i hi, b_0]
    by_cases h0 : i = 0
    · subst h0
      have h3 : bt (t >>> ((15 : Int32) &&& 31)) 0 = if 15 + 0 < 32 then bt t (15 + 0) else bt t 31 := b_sshr 15 (by omega) t (by omega)
      rw [h3, if_pos (by omega)]
      show (bt t 15 && _) = _
      rw [hb]; rfl
    · rw [decide_eq_false h0, Bool.and_false]
def fg_zn (fl r : Int32) : Int32 := fg_sf (fg_sf fl 1 (if r = 0 then 1 else 0)) 2 (if r &&& 32768 = 0 then 0 else 1)
theorem fg_zb1 (fb r : Int32) : fg_zb fb 1 r = if r = 0 then 1 else 0 := if_neg (by decide)
theorem fg_nb1 (fb r : Int32) : fg_nb fb 1 r = if r &&& 32768 = 0 then 0 else 1 := (if_neg (by decide)).trans (fg_15 r)
theorem fg_znL {z n c v r : Int32} (fb : Int32) (hz : fg_B z) (hn : fg_B n) (hc : fg_B c) (hv : fg_B v) : fg_zn (fg_L z n c v) r = fg_L (fg_zb fb 1 r) (fg_nb fb 1 r) c v := by
  unfold fg_zn
  rw [fg_s1 hz hn hc hv (fg_ite fg_B1 fg_B0), fg_s2 (fg_ite fg_B1 fg_B0) hn hc hv (fg_ite fg_B0 fg_B1), fg_zb1, fg_nb1]
theorem fg_znF {fb zp zr ck cl cr cw r : Int32} : fg_zn (fg_F fb zp zr ck cl cr cw) r = fg_F fb 1 r ck cl cr cw :=
  fg_znL fb (fg_zbB _ _ _) (fg_nbB _ _ _) (fg_cbB _ _ _) (fg_vbB _ _ _ _ _)
theorem fg_add {fb zp zr ck cl cr cw a v w : Int32} : fg_zn (fg_sf (fg_sf (fg_F fb zp zr ck cl cr cw) 4 (if w ≤ 65535 then 0 else 1)) 8 (if (((a ^^^ (w &&& 65535)) &&& (v ^^^ (w &&& 65535))) &&& 32768) = 0 then 0 else 1)) (w &&& 65535) = fg_F fb 1 (w &&& 65535) 1 a v w := by
  unfold fg_F
  rw [fg_s4 (fg_zbB _ _ _) (fg_nbB _ _ _) (fg_cbB _ _ _) (fg_vbB _ _ _ _ _) (fg_ite fg_B0 fg_B1), fg_s8 (fg_zbB _ _ _) (fg_nbB _ _ _) (fg_ite fg_B0 fg_B1) (fg_vbB _ _ _ _ _) (fg_ite fg_B0 fg_B1), fg_znL fb (fg_zbB _ _ _) (fg_nbB _ _ _) (fg_ite fg_B0 fg_B1) (fg_ite fg_B0 fg_B1), ← fg_15]
  have h1 : fg_cb fb 1 w = if w ≤ 65535 then 0 else 1 := if_pos rfl
  have h2 : fg_vb fb 1 a v w = (((a ^^^ (w &&& 65535)) &&& (v ^^^ (w &&& 65535))) >>> ((15 : Int32) &&& 31)) &&& 1 := if_pos rfl
  rw [h1, h2]
theorem fg_sub {fb zp zr ck cl cr cw a v w : Int32} : fg_zn (fg_sf (fg_sf (fg_F fb zp zr ck cl cr cw) 4 (if 0 ≤ w then 0 else 1)) 8 (if (((a ^^^ v) &&& (a ^^^ (w &&& 65535))) &&& 32768) = 0 then 0 else 1)) (w &&& 65535) = fg_F fb 1 (w &&& 65535) 2 a v w := by
  unfold fg_F
  rw [fg_s4 (fg_zbB _ _ _) (fg_nbB _ _ _) (fg_cbB _ _ _) (fg_vbB _ _ _ _ _) (fg_ite fg_B0 fg_B1), fg_s8 (fg_zbB _ _ _) (fg_nbB _ _ _) (fg_ite fg_B0 fg_B1) (fg_vbB _ _ _ _ _) (fg_ite fg_B0 fg_B1), fg_znL fb (fg_zbB _ _ _) (fg_nbB _ _ _) (fg_ite fg_B0 fg_B1) (fg_ite fg_B0 fg_B1), ← fg_15]
  have h1 : fg_cb fb 2 w = if 0 ≤ w then 0 else 1 := (if_neg (by decide)).trans (if_pos rfl)
  have h2 : fg_vb fb 2 a v w = (((a ^^^ v) &&& (a ^^^ (w &&& 65535))) >>> ((15 : Int32) &&& 31)) &&& 1 := (if_neg (by decide)).trans (if_pos rfl)
  rw [h1, h2]
/-- what setCarry leaves in flagBits -/
def fg_sc (fb b v : Int32) : Int32 := ((fb &&& 3) ||| (b <<< ((2 : Int32) &&& 31))) ||| (v <<< ((3 : Int32) &&& 31))
theorem fg_sc2 {fb b v : Int32} (hb : fg_B b) (hv : fg_B v) : (fg_sc fb b v >>> ((2 : Int32) &&& 31)) &&& 1 = b ∧ (fg_sc fb b v >>> ((3 : Int32) &&& 31)) &&& 1 = v := by
  unfold fg_sc
  obtain ⟨j, hj, e⟩ := pk_andE fb (m := 3) 2 (by decide)
  rw [e]
  have : j = 0 ∨ j = 1 ∨ j = 2 ∨ j = 3 := by omega
  rcases this with rfl | rfl | rfl | rfl <;> rcases hb with rfl | rfl <;> rcases hv with rfl | rfl <;> decide +kernel
theorem fg_car {fb zp zr ck cl cr cw r b : Int32} (hb : fg_B b) : fg_zn (fg_sf (fg_F fb zp zr ck cl cr cw) 4 b) r = fg_F (fg_sc fb b (fg_vb fb ck cl cr cw)) 1 r 0 cl cr cw := by
  have h1 : fg_cb (fg_sc fb b (fg_vb fb ck cl cr cw)) 0 cw = b := (if_neg (by decide)).trans ((if_neg (by decide)).trans (fg_sc2 hb (fg_vbB _ _ _ _ _)).1)
  have h2 : fg_vb (fg_sc fb b (fg_vb fb ck cl cr cw)) 0 cl cr cw = fg_vb fb ck cl cr cw := (if_neg (by decide)).trans ((if_neg (by decide)).trans (fg_sc2 hb (fg_vbB _ _ _ _ _)).2)
  unfold fg_F
  rw [fg_s4 (fg_zbB _ _ _) (fg_nbB _ _ _) (fg_cbB _ _ _) (fg_vbB _ _ _ _ _) hb, fg_znL (fg_sc fb b (fg_vb fb ck cl cr cw)) (fg_zbB _ _ _) (fg_nbB _ _ _) hb (fg_vbB _ _ _ _ _), h1, h2]
theorem fg_ld0 : ∀ j : Nat, j < 16 → fg_L (nI j &&& 1) ((nI j >>> ((1 : Int32) &&& 31)) &&& 1) ((nI j >>> ((2 : Int32) &&& 31)) &&& 1) ((nI j >>> ((3 : Int32) &&& 31)) &&& 1) = nI j := by decide +kernel
theorem fg_ld {w zr cl cr cw : Int32} : fg_F (w &&& 15) 0 zr 0 cl cr cw = w &&& 15 := by
  obtain ⟨j, hj, e⟩ := ab_W15 w
  rw [e]
  exact fg_ld0 j hj
theorem fg_LW {z n c v : Int32} (hz : fg_B z) (hn : fg_B n) (hc : fg_B c) (hv : fg_B v) : ab_W (fg_L z n c v) := by
  rcases hz with rfl | rfl <;> rcases hn with rfl | rfl <;> rcases hc with rfl | rfl <;> rcases hv with rfl | rfl
  · exact ⟨0, by decide, by decide +kernel⟩
  · exact ⟨8, by decide, by decide +kernel⟩
  · exact ⟨4, by decide, by decide +kernel⟩
  · exact ⟨12, by decide, by decide +kernel⟩
  · exact ⟨2, by decide, by decide +kernel⟩
  · exact ⟨10, by decide, by decide +kernel⟩
  · exact ⟨6, by decide, by decide +kernel⟩
  · exact ⟨14, by decide, by decide +kernel⟩
  · exact ⟨1, by decide, by decide +kernel⟩
  · exact ⟨9, by decide, by decide +kernel⟩
  · exact ⟨5, by decide, by decide +kernel⟩
  · exact ⟨13, by decide, by decide +kernel⟩
  · exact ⟨3, by decide, by decide +kernel⟩
  · exact ⟨11, by decide, by decide +kernel⟩
  · exact ⟨7, by decide, by decide +kernel⟩
  · exact ⟨15, by decide, by decide +kernel⟩
theorem fg_FW {fb zp zr ck cl cr cw : Int32} : ab_W (fg_F fb zp zr ck cl cr cw) := fg_LW (fg_zbB _ _ _) (fg_nbB _ _ _) (fg_cbB _ _ _) (fg_vbB _ _ _ _ _)
/-- the answer of a branch's condition, by its opcode -/
def fg_cd (k : Int32) (z n c v : Int32) : Int32 :=
  if k = 20 then z else if k = 21 then (if z = 0 then 1 else 0) else if k = 22 then c else if k = 23 then (if c = 0 then 1 else 0)
  else if k = 24 then n else if k = 25 then (if n = 0 then 1 else 0) else if k = 26 then v else if k = 27 then (if v = 0 then 1 else 0)
  else if k = 28 then (if n = v then 0 else 1) else (if n = v then 1 else 0)
theorem fg_L1 {z n c v : Int32} (hz : fg_B z) (hn : fg_B n) (hc : fg_B c) (hv : fg_B v) : (fg_L z n c v &&& 1 = 0 ↔ z = 0) ∧ (fg_L z n c v &&& 2 = 0 ↔ n = 0) ∧ (fg_L z n c v &&& 4 = 0 ↔ c = 0) ∧ (fg_L z n c v &&& 8 = 0 ↔ v = 0) := by
  rcases hz with rfl | rfl <;> rcases hn with rfl | rfl <;> rcases hc with rfl | rfl <;> rcases hv with rfl | rfl <;> decide +kernel
theorem fg_1 {x : Int32} (h : fg_B x) (h0 : ¬ x = 0) : x = 1 := h.resolve_left h0
end
section
/-! X's small methods, a general post -/
theorem ab_if {α : Sort _} {c : Prop} [Decidable c] {P : α → Prop} {a b : α} {A B : Prop} (h : P (if c then a else b)) (f : P a → A) (g : P b → B) : (c → A) ∧ (¬ c → B) :=
  ⟨fun e => f (by rw [if_pos e] at h; exact h), fun e => g (by rw [if_neg e] at h; exact h)⟩
section XS
variable {f_size f_executedCount f_regA f_regX f_regS f_pc f_flagBits f_znPending f_znResult f_cvKind f_cvLeft f_cvRight f_cvWide f_inHead f_inSize f_outHead f_outSize f_lastCode f_lastDetail f_cacheLimit f_lengthLimit f_hand f_running f_linkFrom f_exitKind f_controlDone f_trapCode f_trapDetail : Int32} {a_mem a_marks a_visitCount a_inQueue a_outQueue a_blockStart a_blockCount a_blockRecent a_links a_entry a_cover a_opKind a_opMode a_opArg : Nat → Int32}
theorem xs_zeroBit {post : Int32 → Prop} (h : post (fg_zb f_flagBits f_znPending f_znResult)) : wpX_zeroBit post (f_size, f_executedCount, f_regA, f_regX, f_regS, f_pc, f_flagBits, f_znPending, f_znResult, f_cvKind, f_cvLeft, f_cvRight, f_cvWide, f_inHead, f_inSize, f_outHead, f_outSize, f_lastCode, f_lastDetail, f_cacheLimit, f_lengthLimit, f_hand, f_running, f_linkFrom, f_exitKind, f_controlDone, f_trapCode, f_trapDetail, a_mem, a_marks, a_visitCount, a_inQueue, a_outQueue, a_blockStart, a_blockCount, a_blockRecent, a_links, a_entry, a_cover, a_opKind, a_opMode, a_opArg) :=
  ab_if (P := post) h id (fun h => ab_if (P := post) h id id)
theorem xs_negativeBit {post : Int32 → Prop} (h : post (fg_nb f_flagBits f_znPending f_znResult)) : wpX_negativeBit post (f_size, f_executedCount, f_regA, f_regX, f_regS, f_pc, f_flagBits, f_znPending, f_znResult, f_cvKind, f_cvLeft, f_cvRight, f_cvWide, f_inHead, f_inSize, f_outHead, f_outSize, f_lastCode, f_lastDetail, f_cacheLimit, f_lengthLimit, f_hand, f_running, f_linkFrom, f_exitKind, f_controlDone, f_trapCode, f_trapDetail, a_mem, a_marks, a_visitCount, a_inQueue, a_outQueue, a_blockStart, a_blockCount, a_blockRecent, a_links, a_entry, a_cover, a_opKind, a_opMode, a_opArg) :=
  ab_if (P := post) h id id
theorem xs_carryBit {post : Int32 → Prop} (h : post (fg_cb f_flagBits f_cvKind f_cvWide)) : wpX_carryBit post (f_size, f_executedCount, f_regA, f_regX, f_regS, f_pc, f_flagBits, f_znPending, f_znResult, f_cvKind, f_cvLeft, f_cvRight, f_cvWide, f_inHead, f_inSize, f_outHead, f_outSize, f_lastCode, f_lastDetail, f_cacheLimit, f_lengthLimit, f_hand, f_running, f_linkFrom, f_exitKind, f_controlDone, f_trapCode, f_trapDetail, a_mem, a_marks, a_visitCount, a_inQueue, a_outQueue, a_blockStart, a_blockCount, a_blockRecent, a_links, a_entry, a_cover, a_opKind, a_opMode, a_opArg) :=
  ab_if (P := post) h (fun h => ab_if (P := post) h id id) (fun h => ab_if (P := post) h (fun h => ab_if (P := post) h id id) id)
theorem xs_overflowBit {post : Int32 → Prop} (h : post (fg_vb f_flagBits f_cvKind f_cvLeft f_cvRight f_cvWide)) : wpX_overflowBit post (f_size, f_executedCount, f_regA, f_regX, f_regS, f_pc, f_flagBits, f_znPending, f_znResult, f_cvKind, f_cvLeft, f_cvRight, f_cvWide, f_inHead, f_inSize, f_outHead, f_outSize, f_lastCode, f_lastDetail, f_cacheLimit, f_lengthLimit, f_hand, f_running, f_linkFrom, f_exitKind, f_controlDone, f_trapCode, f_trapDetail, a_mem, a_marks, a_visitCount, a_inQueue, a_outQueue, a_blockStart, a_blockCount, a_blockRecent, a_links, a_entry, a_cover, a_opKind, a_opMode, a_opArg) :=
  nm_e (ab_if (P := post) h id (fun h => ab_if (P := post) h id id))
theorem xs_currentFlags {post : Int32 → Prop} (h : post (fg_F f_flagBits f_znPending f_znResult f_cvKind f_cvLeft f_cvRight f_cvWide)) : wpX_currentFlags post (f_size, f_executedCount, f_regA, f_regX, f_regS, f_pc, f_flagBits, f_znPending, f_znResult, f_cvKind, f_cvLeft, f_cvRight, f_cvWide, f_inHead, f_inSize, f_outHead, f_outSize, f_lastCode, f_lastDetail, f_cacheLimit, f_lengthLimit, f_hand, f_running, f_linkFrom, f_exitKind, f_controlDone, f_trapCode, f_trapDetail, a_mem, a_marks, a_visitCount, a_inQueue, a_outQueue, a_blockStart, a_blockCount, a_blockRecent, a_links, a_entry, a_cover, a_opKind, a_opMode, a_opArg) := by
  unfold wpX_currentFlags
  refine xs_zeroBit ?_
  refine xs_negativeBit ?_
  refine xs_carryBit ?_
  refine xs_overflowBit ?_
  exact h
theorem xs_setCarry {post : SX → Prop} {p0 : Int32} (h : post (f_size, f_executedCount, f_regA, f_regX, f_regS, f_pc, fg_sc f_flagBits p0 (fg_vb f_flagBits f_cvKind f_cvLeft f_cvRight f_cvWide), f_znPending, f_znResult, 0, f_cvLeft, f_cvRight, f_cvWide, f_inHead, f_inSize, f_outHead, f_outSize, f_lastCode, f_lastDetail, f_cacheLimit, f_lengthLimit, f_hand, f_running, f_linkFrom, f_exitKind, f_controlDone, f_trapCode, f_trapDetail, a_mem, a_marks, a_visitCount, a_inQueue, a_outQueue, a_blockStart, a_blockCount, a_blockRecent, a_links, a_entry, a_cover, a_opKind, a_opMode, a_opArg)) : wpX_setCarry post (f_size, f_executedCount, f_regA, f_regX, f_regS, f_pc, f_flagBits, f_znPending, f_znResult, f_cvKind, f_cvLeft, f_cvRight, f_cvWide, f_inHead, f_inSize, f_outHead, f_outSize, f_lastCode, f_lastDetail, f_cacheLimit, f_lengthLimit, f_hand, f_running, f_linkFrom, f_exitKind, f_controlDone, f_trapCode, f_trapDetail, a_mem, a_marks, a_visitCount, a_inQueue, a_outQueue, a_blockStart, a_blockCount, a_blockRecent, a_links, a_entry, a_cover, a_opKind, a_opMode, a_opArg) p0 := by
  unfold wpX_setCarry
  refine xs_overflowBit ?_
  exact nm_e h
theorem xs_loadFlags {post : SX → Prop} {p0 : Int32} (h : post (f_size, f_executedCount, f_regA, f_regX, f_regS, f_pc, p0 &&& 15, 0, f_znResult, 0, f_cvLeft, f_cvRight, f_cvWide, f_inHead, f_inSize, f_outHead, f_outSize, f_lastCode, f_lastDetail, f_cacheLimit, f_lengthLimit, f_hand, f_running, f_linkFrom, f_exitKind, f_controlDone, f_trapCode, f_trapDetail, a_mem, a_marks, a_visitCount, a_inQueue, a_outQueue, a_blockStart, a_blockCount, a_blockRecent, a_links, a_entry, a_cover, a_opKind, a_opMode, a_opArg)) : wpX_loadFlags post (f_size, f_executedCount, f_regA, f_regX, f_regS, f_pc, f_flagBits, f_znPending, f_znResult, f_cvKind, f_cvLeft, f_cvRight, f_cvWide, f_inHead, f_inSize, f_outHead, f_outSize, f_lastCode, f_lastDetail, f_cacheLimit, f_lengthLimit, f_hand, f_running, f_linkFrom, f_exitKind, f_controlDone, f_trapCode, f_trapDetail, a_mem, a_marks, a_visitCount, a_inQueue, a_outQueue, a_blockStart, a_blockCount, a_blockRecent, a_links, a_entry, a_cover, a_opKind, a_opMode, a_opArg) p0 :=
  nm_e h
theorem xs_setZn {post : SX → Prop} {p0 : Int32} (h : post (f_size, f_executedCount, f_regA, f_regX, f_regS, f_pc, f_flagBits, 1, p0, f_cvKind, f_cvLeft, f_cvRight, f_cvWide, f_inHead, f_inSize, f_outHead, f_outSize, f_lastCode, f_lastDetail, f_cacheLimit, f_lengthLimit, f_hand, f_running, f_linkFrom, f_exitKind, f_controlDone, f_trapCode, f_trapDetail, a_mem, a_marks, a_visitCount, a_inQueue, a_outQueue, a_blockStart, a_blockCount, a_blockRecent, a_links, a_entry, a_cover, a_opKind, a_opMode, a_opArg)) : wpX_setZn post (f_size, f_executedCount, f_regA, f_regX, f_regS, f_pc, f_flagBits, f_znPending, f_znResult, f_cvKind, f_cvLeft, f_cvRight, f_cvWide, f_inHead, f_inSize, f_outHead, f_outSize, f_lastCode, f_lastDetail, f_cacheLimit, f_lengthLimit, f_hand, f_running, f_linkFrom, f_exitKind, f_controlDone, f_trapCode, f_trapDetail, a_mem, a_marks, a_visitCount, a_inQueue, a_outQueue, a_blockStart, a_blockCount, a_blockRecent, a_links, a_entry, a_cover, a_opKind, a_opMode, a_opArg) p0 := h
theorem xs_addWords {post : Int32 → SX → Prop} {p0 p1 : Int32} (h : post ((f_regA + p0 + p1) &&& 65535) (f_size, f_executedCount, f_regA, f_regX, f_regS, f_pc, f_flagBits, 1, (f_regA + p0 + p1) &&& 65535, 1, f_regA, p0, f_regA + p0 + p1, f_inHead, f_inSize, f_outHead, f_outSize, f_lastCode, f_lastDetail, f_cacheLimit, f_lengthLimit, f_hand, f_running, f_linkFrom, f_exitKind, f_controlDone, f_trapCode, f_trapDetail, a_mem, a_marks, a_visitCount, a_inQueue, a_outQueue, a_blockStart, a_blockCount, a_blockRecent, a_links, a_entry, a_cover, a_opKind, a_opMode, a_opArg)) : wpX_addWords post (f_size, f_executedCount, f_regA, f_regX, f_regS, f_pc, f_flagBits, f_znPending, f_znResult, f_cvKind, f_cvLeft, f_cvRight, f_cvWide, f_inHead, f_inSize, f_outHead, f_outSize, f_lastCode, f_lastDetail, f_cacheLimit, f_lengthLimit, f_hand, f_running, f_linkFrom, f_exitKind, f_controlDone, f_trapCode, f_trapDetail, a_mem, a_marks, a_visitCount, a_inQueue, a_outQueue, a_blockStart, a_blockCount, a_blockRecent, a_links, a_entry, a_cover, a_opKind, a_opMode, a_opArg) p0 p1 :=
  nm_e (nm_e (xs_setZn h))
theorem xs_subtractWords {post : Int32 → SX → Prop} {p0 p1 : Int32} (h : post ((f_regA - p0 - p1) &&& 65535) (f_size, f_executedCount, f_regA, f_regX, f_regS, f_pc, f_flagBits, 1, (f_regA - p0 - p1) &&& 65535, 2, f_regA, p0, f_regA - p0 - p1, f_inHead, f_inSize, f_outHead, f_outSize, f_lastCode, f_lastDetail, f_cacheLimit, f_lengthLimit, f_hand, f_running, f_linkFrom, f_exitKind, f_controlDone, f_trapCode, f_trapDetail, a_mem, a_marks, a_visitCount, a_inQueue, a_outQueue, a_blockStart, a_blockCount, a_blockRecent, a_links, a_entry, a_cover, a_opKind, a_opMode, a_opArg)) : wpX_subtractWords post (f_size, f_executedCount, f_regA, f_regX, f_regS, f_pc, f_flagBits, f_znPending, f_znResult, f_cvKind, f_cvLeft, f_cvRight, f_cvWide, f_inHead, f_inSize, f_outHead, f_outSize, f_lastCode, f_lastDetail, f_cacheLimit, f_lengthLimit, f_hand, f_running, f_linkFrom, f_exitKind, f_controlDone, f_trapCode, f_trapDetail, a_mem, a_marks, a_visitCount, a_inQueue, a_outQueue, a_blockStart, a_blockCount, a_blockRecent, a_links, a_entry, a_cover, a_opKind, a_opMode, a_opArg) p0 p1 :=
  nm_e (nm_e (xs_setZn h))
theorem xs_trap {post : Int32 → SX → Prop} {p0 p1 : Int32} (h : post 0 (f_size, f_executedCount, f_regA, f_regX, f_regS, f_pc, f_flagBits, f_znPending, f_znResult, f_cvKind, f_cvLeft, f_cvRight, f_cvWide, f_inHead, f_inSize, f_outHead, f_outSize, f_lastCode, f_lastDetail, f_cacheLimit, f_lengthLimit, f_hand, f_running, f_linkFrom, f_exitKind, f_controlDone, p0, p1, a_mem, a_marks, a_visitCount, a_inQueue, a_outQueue, a_blockStart, a_blockCount, a_blockRecent, a_links, a_entry, a_cover, a_opKind, a_opMode, a_opArg)) : wpX_trap post (f_size, f_executedCount, f_regA, f_regX, f_regS, f_pc, f_flagBits, f_znPending, f_znResult, f_cvKind, f_cvLeft, f_cvRight, f_cvWide, f_inHead, f_inSize, f_outHead, f_outSize, f_lastCode, f_lastDetail, f_cacheLimit, f_lengthLimit, f_hand, f_running, f_linkFrom, f_exitKind, f_controlDone, f_trapCode, f_trapDetail, a_mem, a_marks, a_visitCount, a_inQueue, a_outQueue, a_blockStart, a_blockCount, a_blockRecent, a_links, a_entry, a_cover, a_opKind, a_opMode, a_opArg) p0 p1 := h
theorem xs_divT {post : Int32 → SX → Prop} {v : Int32} (hv : v = 0) (h : post 0 (f_size, f_executedCount, f_regA, f_regX, f_regS, f_pc, f_flagBits, f_znPending, f_znResult, f_cvKind, f_cvLeft, f_cvRight, f_cvWide, f_inHead, f_inSize, f_outHead, f_outSize, f_lastCode, f_lastDetail, f_cacheLimit, f_lengthLimit, f_hand, f_running, f_linkFrom, f_exitKind, f_controlDone, 10, 0, a_mem, a_marks, a_visitCount, a_inQueue, a_outQueue, a_blockStart, a_blockCount, a_blockRecent, a_links, a_entry, a_cover, a_opKind, a_opMode, a_opArg)) : wpX_divide post (f_size, f_executedCount, f_regA, f_regX, f_regS, f_pc, f_flagBits, f_znPending, f_znResult, f_cvKind, f_cvLeft, f_cvRight, f_cvWide, f_inHead, f_inSize, f_outHead, f_outSize, f_lastCode, f_lastDetail, f_cacheLimit, f_lengthLimit, f_hand, f_running, f_linkFrom, f_exitKind, f_controlDone, f_trapCode, f_trapDetail, a_mem, a_marks, a_visitCount, a_inQueue, a_outQueue, a_blockStart, a_blockCount, a_blockRecent, a_links, a_entry, a_cover, a_opKind, a_opMode, a_opArg) v :=
  br_t hv (xs_trap ⟨rfl, h⟩)
theorem xs_div {post : Int32 → SX → Prop} {v : Int32} (hv : ¬ v = 0) (h : post 1 (f_size, f_executedCount, f_regA / v, f_regA - f_regA / v * v, f_regS, f_pc, f_flagBits, 1, f_regA / v, f_cvKind, f_cvLeft, f_cvRight, f_cvWide, f_inHead, f_inSize, f_outHead, f_outSize, f_lastCode, f_lastDetail, f_cacheLimit, f_lengthLimit, f_hand, f_running, f_linkFrom, f_exitKind, f_controlDone, f_trapCode, f_trapDetail, a_mem, a_marks, a_visitCount, a_inQueue, a_outQueue, a_blockStart, a_blockCount, a_blockRecent, a_links, a_entry, a_cover, a_opKind, a_opMode, a_opArg)) : wpX_divide post (f_size, f_executedCount, f_regA, f_regX, f_regS, f_pc, f_flagBits, f_znPending, f_znResult, f_cvKind, f_cvLeft, f_cvRight, f_cvWide, f_inHead, f_inSize, f_outHead, f_outSize, f_lastCode, f_lastDetail, f_cacheLimit, f_lengthLimit, f_hand, f_running, f_linkFrom, f_exitKind, f_controlDone, f_trapCode, f_trapDetail, a_mem, a_marks, a_visitCount, a_inQueue, a_outQueue, a_blockStart, a_blockCount, a_blockRecent, a_links, a_entry, a_cover, a_opKind, a_opMode, a_opArg) v :=
  br_f hv (And.intro hv (nm_e (And.intro hv (nm_e (xs_setZn h)))))
theorem xs_ring {post : Int32 → Prop} {h o : Nat} (hh : h < 16) (ho : o ≤ 16) (k : post (nI ((h + o) % 16))) : wpX_ringPlace post (f_size, f_executedCount, f_regA, f_regX, f_regS, f_pc, f_flagBits, f_znPending, f_znResult, f_cvKind, f_cvLeft, f_cvRight, f_cvWide, f_inHead, f_inSize, f_outHead, f_outSize, f_lastCode, f_lastDetail, f_cacheLimit, f_lengthLimit, f_hand, f_running, f_linkFrom, f_exitKind, f_controlDone, f_trapCode, f_trapDetail, a_mem, a_marks, a_visitCount, a_inQueue, a_outQueue, a_blockStart, a_blockCount, a_blockRecent, a_links, a_entry, a_cover, a_opKind, a_opMode, a_opArg) (nI h) (nI o) := by
  refine nm_r (nI_add h o) ?_
  refine pk_lt (h + o) 16 (fun l => ?_) (fun l => ?_)
  · rw [Nat.mod_eq_of_lt l] at k; exact k
  · have e : nI (h + o) - 16 = nI (h + o - 16) := pk_sub (b := 16) l
    have e2 : (h + o) % 16 = h + o - 16 := by omega
    rw [e2] at k
    rw [e]; exact k
/-! the address and the operand, by mode -/
theorem xs_ea0 {post : Int32 → Prop} {p1 : Int32} (h : post 0) : wpX_effectiveAddress post (f_size, f_executedCount, f_regA, f_regX, f_regS, f_pc, f_flagBits, f_znPending, f_znResult, f_cvKind, f_cvLeft, f_cvRight, f_cvWide, f_inHead, f_inSize, f_outHead, f_outSize, f_lastCode, f_lastDetail, f_cacheLimit, f_lengthLimit, f_hand, f_running, f_linkFrom, f_exitKind, f_controlDone, f_trapCode, f_trapDetail, a_mem, a_marks, a_visitCount, a_inQueue, a_outQueue, a_blockStart, a_blockCount, a_blockRecent, a_links, a_entry, a_cover, a_opKind, a_opMode, a_opArg) 0 p1 := br_t (by decide) h
theorem xs_ea1 {post : Int32 → Prop} {p1 : Int32} (h : post p1) : wpX_effectiveAddress post (f_size, f_executedCount, f_regA, f_regX, f_regS, f_pc, f_flagBits, f_znPending, f_znResult, f_cvKind, f_cvLeft, f_cvRight, f_cvWide, f_inHead, f_inSize, f_outHead, f_outSize, f_lastCode, f_lastDetail, f_cacheLimit, f_lengthLimit, f_hand, f_running, f_linkFrom, f_exitKind, f_controlDone, f_trapCode, f_trapDetail, a_mem, a_marks, a_visitCount, a_inQueue, a_outQueue, a_blockStart, a_blockCount, a_blockRecent, a_links, a_entry, a_cover, a_opKind, a_opMode, a_opArg) 1 p1 := br_f (by decide) (br_f (by decide) (br_t (by decide) h))
theorem xs_ea2 {post : Int32 → Prop} {p1 e : Int32} (he : (p1 + f_regX) &&& 65535 = e) (h : post e) : wpX_effectiveAddress post (f_size, f_executedCount, f_regA, f_regX, f_regS, f_pc, f_flagBits, f_znPending, f_znResult, f_cvKind, f_cvLeft, f_cvRight, f_cvWide, f_inHead, f_inSize, f_outHead, f_outSize, f_lastCode, f_lastDetail, f_cacheLimit, f_lengthLimit, f_hand, f_running, f_linkFrom, f_exitKind, f_controlDone, f_trapCode, f_trapDetail, a_mem, a_marks, a_visitCount, a_inQueue, a_outQueue, a_blockStart, a_blockCount, a_blockRecent, a_links, a_entry, a_cover, a_opKind, a_opMode, a_opArg) 2 p1 := by
  subst he
  exact br_f (by decide) (br_f (by decide) (br_f (by decide) (br_t (by decide) h)))
theorem xs_ea3 {post : Int32 → Prop} {p1 : Int32} (h : post 0) : wpX_effectiveAddress post (f_size, f_executedCount, f_regA, f_regX, f_regS, f_pc, f_flagBits, f_znPending, f_znResult, f_cvKind, f_cvLeft, f_cvRight, f_cvWide, f_inHead, f_inSize, f_outHead, f_outSize, f_lastCode, f_lastDetail, f_cacheLimit, f_lengthLimit, f_hand, f_running, f_linkFrom, f_exitKind, f_controlDone, f_trapCode, f_trapDetail, a_mem, a_marks, a_visitCount, a_inQueue, a_outQueue, a_blockStart, a_blockCount, a_blockRecent, a_links, a_entry, a_cover, a_opKind, a_opMode, a_opArg) 3 p1 := br_f (by decide) (br_f (by decide) (br_f (by decide) (br_f (by decide) (br_t (by decide) h))))
theorem xs_ea4 {post : Int32 → Prop} {p1 e : Int32} (he : (f_regS - 1) &&& 65535 = e) (h : post e) : wpX_effectiveAddress post (f_size, f_executedCount, f_regA, f_regX, f_regS, f_pc, f_flagBits, f_znPending, f_znResult, f_cvKind, f_cvLeft, f_cvRight, f_cvWide, f_inHead, f_inSize, f_outHead, f_outSize, f_lastCode, f_lastDetail, f_cacheLimit, f_lengthLimit, f_hand, f_running, f_linkFrom, f_exitKind, f_controlDone, f_trapCode, f_trapDetail, a_mem, a_marks, a_visitCount, a_inQueue, a_outQueue, a_blockStart, a_blockCount, a_blockRecent, a_links, a_entry, a_cover, a_opKind, a_opMode, a_opArg) 4 p1 := by
  subst he
  exact br_f (by decide) (br_f (by decide) (br_f (by decide) (br_f (by decide) (br_f (by decide) (br_t (by decide) h)))))
theorem xs_ea5 {post : Int32 → Prop} {p1 e : Int32} (he : f_regS = e) (h : post e) : wpX_effectiveAddress post (f_size, f_executedCount, f_regA, f_regX, f_regS, f_pc, f_flagBits, f_znPending, f_znResult, f_cvKind, f_cvLeft, f_cvRight, f_cvWide, f_inHead, f_inSize, f_outHead, f_outSize, f_lastCode, f_lastDetail, f_cacheLimit, f_lengthLimit, f_hand, f_running, f_linkFrom, f_exitKind, f_controlDone, f_trapCode, f_trapDetail, a_mem, a_marks, a_visitCount, a_inQueue, a_outQueue, a_blockStart, a_blockCount, a_blockRecent, a_links, a_entry, a_cover, a_opKind, a_opMode, a_opArg) 5 p1 := by
  subst he
  exact br_f (by decide) (br_f (by decide) (br_f (by decide) (br_f (by decide) (br_f (by decide) (br_f (by decide) (br_t (by decide) h))))))
theorem xs_ov0 {post : Int32 → Prop} {p1 p2 : Int32} (h : post p1) : wpX_operandValue post (f_size, f_executedCount, f_regA, f_regX, f_regS, f_pc, f_flagBits, f_znPending, f_znResult, f_cvKind, f_cvLeft, f_cvRight, f_cvWide, f_inHead, f_inSize, f_outHead, f_outSize, f_lastCode, f_lastDetail, f_cacheLimit, f_lengthLimit, f_hand, f_running, f_linkFrom, f_exitKind, f_controlDone, f_trapCode, f_trapDetail, a_mem, a_marks, a_visitCount, a_inQueue, a_outQueue, a_blockStart, a_blockCount, a_blockRecent, a_links, a_entry, a_cover, a_opKind, a_opMode, a_opArg) 0 p1 p2 := br_t rfl h
theorem xs_ov3 {post : Int32 → Prop} {p1 p2 : Int32} (h : post f_regX) : wpX_operandValue post (f_size, f_executedCount, f_regA, f_regX, f_regS, f_pc, f_flagBits, f_znPending, f_znResult, f_cvKind, f_cvLeft, f_cvRight, f_cvWide, f_inHead, f_inSize, f_outHead, f_outSize, f_lastCode, f_lastDetail, f_cacheLimit, f_lengthLimit, f_hand, f_running, f_linkFrom, f_exitKind, f_controlDone, f_trapCode, f_trapDetail, a_mem, a_marks, a_visitCount, a_inQueue, a_outQueue, a_blockStart, a_blockCount, a_blockRecent, a_links, a_entry, a_cover, a_opKind, a_opMode, a_opArg) 3 p1 p2 := br_f (by decide) (br_t rfl h)
theorem xs_ovm {post : Int32 → Prop} {m p1 : Int32} {a : Nat} (h0 : ¬ m = 0) (h3 : ¬ m = 3) (ha : a < 256) (h : post (a_mem a)) : wpX_operandValue post (f_size, f_executedCount, f_regA, f_regX, f_regS, f_pc, f_flagBits, f_znPending, f_znResult, f_cvKind, f_cvLeft, f_cvRight, f_cvWide, f_inHead, f_inSize, f_outHead, f_outSize, f_lastCode, f_lastDetail, f_cacheLimit, f_lengthLimit, f_hand, f_running, f_linkFrom, f_exitKind, f_controlDone, f_trapCode, f_trapDetail, a_mem, a_marks, a_visitCount, a_inQueue, a_outQueue, a_blockStart, a_blockCount, a_blockRecent, a_links, a_entry, a_cover, a_opKind, a_opMode, a_opArg) m p1 (nI a) := by
  refine br_f h0 (br_f h3 (And.intro (vp_in_nI ha (by decide)) ?_))
  rw [nI_clamp (by omega)]
  exact h
/-! operate, by function -/
theorem xo_0 {post : Int32 → SX → Prop} {v : Int32} (h : post 1 (f_size, f_executedCount, v, f_regX, f_regS, f_pc, f_flagBits, 1, v, f_cvKind, f_cvLeft, f_cvRight, f_cvWide, f_inHead, f_inSize, f_outHead, f_outSize, f_lastCode, f_lastDetail, f_cacheLimit, f_lengthLimit, f_hand, f_running, f_linkFrom, f_exitKind, f_controlDone, f_trapCode, f_trapDetail, a_mem, a_marks, a_visitCount, a_inQueue, a_outQueue, a_blockStart, a_blockCount, a_blockRecent, a_links, a_entry, a_cover, a_opKind, a_opMode, a_opArg)) : wpX_operate post (f_size, f_executedCount, f_regA, f_regX, f_regS, f_pc, f_flagBits, f_znPending, f_znResult, f_cvKind, f_cvLeft, f_cvRight, f_cvWide, f_inHead, f_inSize, f_outHead, f_outSize, f_lastCode, f_lastDetail, f_cacheLimit, f_lengthLimit, f_hand, f_running, f_linkFrom, f_exitKind, f_controlDone, f_trapCode, f_trapDetail, a_mem, a_marks, a_visitCount, a_inQueue, a_outQueue, a_blockStart, a_blockCount, a_blockRecent, a_links, a_entry, a_cover, a_opKind, a_opMode, a_opArg) 0 v := by
  iterate 2 refine br_f (by decide) ?_
  refine br_t (by decide) ?_
  exact xs_setZn h
theorem xo_1 {post : Int32 → SX → Prop} {v : Int32} (h : post 1 (f_size, f_executedCount, (f_regA + v + 0) &&& 65535, f_regX, f_regS, f_pc, f_flagBits, 1, (f_regA + v + 0) &&& 65535, 1, f_regA, v, f_regA + v + 0, f_inHead, f_inSize, f_outHead, f_outSize, f_lastCode, f_lastDetail, f_cacheLimit, f_lengthLimit, f_hand, f_running, f_linkFrom, f_exitKind, f_controlDone, f_trapCode, f_trapDetail, a_mem, a_marks, a_visitCount, a_inQueue, a_outQueue, a_blockStart, a_blockCount, a_blockRecent, a_links, a_entry, a_cover, a_opKind, a_opMode, a_opArg)) : wpX_operate post (f_size, f_executedCount, f_regA, f_regX, f_regS, f_pc, f_flagBits, f_znPending, f_znResult, f_cvKind, f_cvLeft, f_cvRight, f_cvWide, f_inHead, f_inSize, f_outHead, f_outSize, f_lastCode, f_lastDetail, f_cacheLimit, f_lengthLimit, f_hand, f_running, f_linkFrom, f_exitKind, f_controlDone, f_trapCode, f_trapDetail, a_mem, a_marks, a_visitCount, a_inQueue, a_outQueue, a_blockStart, a_blockCount, a_blockRecent, a_links, a_entry, a_cover, a_opKind, a_opMode, a_opArg) 1 v := by
  iterate 3 refine br_f (by decide) ?_
  refine br_t (by decide) ?_
  refine xs_addWords ?_
  exact h
theorem xo_2 {post : Int32 → SX → Prop} {v c : Int32} (hc : c = fg_cb f_flagBits f_cvKind f_cvWide) (h : post 1 (f_size, f_executedCount, (f_regA + v + c) &&& 65535, f_regX, f_regS, f_pc, f_flagBits, 1, (f_regA + v + c) &&& 65535, 1, f_regA, v, f_regA + v + c, f_inHead, f_inSize, f_outHead, f_outSize, f_lastCode, f_lastDetail, f_cacheLimit, f_lengthLimit, f_hand, f_running, f_linkFrom, f_exitKind, f_controlDone, f_trapCode, f_trapDetail, a_mem, a_marks, a_visitCount, a_inQueue, a_outQueue, a_blockStart, a_blockCount, a_blockRecent, a_links, a_entry, a_cover, a_opKind, a_opMode, a_opArg)) : wpX_operate post (f_size, f_executedCount, f_regA, f_regX, f_regS, f_pc, f_flagBits, f_znPending, f_znResult, f_cvKind, f_cvLeft, f_cvRight, f_cvWide, f_inHead, f_inSize, f_outHead, f_outSize, f_lastCode, f_lastDetail, f_cacheLimit, f_lengthLimit, f_hand, f_running, f_linkFrom, f_exitKind, f_controlDone, f_trapCode, f_trapDetail, a_mem, a_marks, a_visitCount, a_inQueue, a_outQueue, a_blockStart, a_blockCount, a_blockRecent, a_links, a_entry, a_cover, a_opKind, a_opMode, a_opArg) 2 v := by
  subst hc
  iterate 4 refine br_f (by decide) ?_
  refine br_t (by decide) ?_
  refine xs_carryBit ?_
  refine xs_addWords ?_
  exact h
theorem xo_3 {post : Int32 → SX → Prop} {v : Int32} (h : post 1 (f_size, f_executedCount, (f_regA - v - 0) &&& 65535, f_regX, f_regS, f_pc, f_flagBits, 1, (f_regA - v - 0) &&& 65535, 2, f_regA, v, f_regA - v - 0, f_inHead, f_inSize, f_outHead, f_outSize, f_lastCode, f_lastDetail, f_cacheLimit, f_lengthLimit, f_hand, f_running, f_linkFrom, f_exitKind, f_controlDone, f_trapCode, f_trapDetail, a_mem, a_marks, a_visitCount, a_inQueue, a_outQueue, a_blockStart, a_blockCount, a_blockRecent, a_links, a_entry, a_cover, a_opKind, a_opMode, a_opArg)) : wpX_operate post (f_size, f_executedCount, f_regA, f_regX, f_regS, f_pc, f_flagBits, f_znPending, f_znResult, f_cvKind, f_cvLeft, f_cvRight, f_cvWide, f_inHead, f_inSize, f_outHead, f_outSize, f_lastCode, f_lastDetail, f_cacheLimit, f_lengthLimit, f_hand, f_running, f_linkFrom, f_exitKind, f_controlDone, f_trapCode, f_trapDetail, a_mem, a_marks, a_visitCount, a_inQueue, a_outQueue, a_blockStart, a_blockCount, a_blockRecent, a_links, a_entry, a_cover, a_opKind, a_opMode, a_opArg) 3 v := by
  iterate 5 refine br_f (by decide) ?_
  refine br_t (by decide) ?_
  refine xs_subtractWords ?_
  exact h
theorem xo_4 {post : Int32 → SX → Prop} {v c : Int32} (hc : c = fg_cb f_flagBits f_cvKind f_cvWide) (h : post 1 (f_size, f_executedCount, (f_regA - v - c) &&& 65535, f_regX, f_regS, f_pc, f_flagBits, 1, (f_regA - v - c) &&& 65535, 2, f_regA, v, f_regA - v - c, f_inHead, f_inSize, f_outHead, f_outSize, f_lastCode, f_lastDetail, f_cacheLimit, f_lengthLimit, f_hand, f_running, f_linkFrom, f_exitKind, f_controlDone, f_trapCode, f_trapDetail, a_mem, a_marks, a_visitCount, a_inQueue, a_outQueue, a_blockStart, a_blockCount, a_blockRecent, a_links, a_entry, a_cover, a_opKind, a_opMode, a_opArg)) : wpX_operate post (f_size, f_executedCount, f_regA, f_regX, f_regS, f_pc, f_flagBits, f_znPending, f_znResult, f_cvKind, f_cvLeft, f_cvRight, f_cvWide, f_inHead, f_inSize, f_outHead, f_outSize, f_lastCode, f_lastDetail, f_cacheLimit, f_lengthLimit, f_hand, f_running, f_linkFrom, f_exitKind, f_controlDone, f_trapCode, f_trapDetail, a_mem, a_marks, a_visitCount, a_inQueue, a_outQueue, a_blockStart, a_blockCount, a_blockRecent, a_links, a_entry, a_cover, a_opKind, a_opMode, a_opArg) 4 v := by
  subst hc
  iterate 6 refine br_f (by decide) ?_
  refine br_t (by decide) ?_
  refine xs_carryBit ?_
  refine xs_subtractWords ?_
  exact h
theorem xo_5 {post : Int32 → SX → Prop} {v : Int32} (h : post 1 (f_size, f_executedCount, f_regA, f_regX, f_regS, f_pc, f_flagBits, 1, (f_regA - v - 0) &&& 65535, 2, f_regA, v, f_regA - v - 0, f_inHead, f_inSize, f_outHead, f_outSize, f_lastCode, f_lastDetail, f_cacheLimit, f_lengthLimit, f_hand, f_running, f_linkFrom, f_exitKind, f_controlDone, f_trapCode, f_trapDetail, a_mem, a_marks, a_visitCount, a_inQueue, a_outQueue, a_blockStart, a_blockCount, a_blockRecent, a_links, a_entry, a_cover, a_opKind, a_opMode, a_opArg)) : wpX_operate post (f_size, f_executedCount, f_regA, f_regX, f_regS, f_pc, f_flagBits, f_znPending, f_znResult, f_cvKind, f_cvLeft, f_cvRight, f_cvWide, f_inHead, f_inSize, f_outHead, f_outSize, f_lastCode, f_lastDetail, f_cacheLimit, f_lengthLimit, f_hand, f_running, f_linkFrom, f_exitKind, f_controlDone, f_trapCode, f_trapDetail, a_mem, a_marks, a_visitCount, a_inQueue, a_outQueue, a_blockStart, a_blockCount, a_blockRecent, a_links, a_entry, a_cover, a_opKind, a_opMode, a_opArg) 5 v := by
  iterate 7 refine br_f (by decide) ?_
  refine br_t (by decide) ?_
  refine xs_subtractWords ?_
  exact h
theorem xo_6 {post : Int32 → SX → Prop} {v : Int32} (h : post 1 (f_size, f_executedCount, f_regA &&& v, f_regX, f_regS, f_pc, f_flagBits, 1, f_regA &&& v, f_cvKind, f_cvLeft, f_cvRight, f_cvWide, f_inHead, f_inSize, f_outHead, f_outSize, f_lastCode, f_lastDetail, f_cacheLimit, f_lengthLimit, f_hand, f_running, f_linkFrom, f_exitKind, f_controlDone, f_trapCode, f_trapDetail, a_mem, a_marks, a_visitCount, a_inQueue, a_outQueue, a_blockStart, a_blockCount, a_blockRecent, a_links, a_entry, a_cover, a_opKind, a_opMode, a_opArg)) : wpX_operate post (f_size, f_executedCount, f_regA, f_regX, f_regS, f_pc, f_flagBits, f_znPending, f_znResult, f_cvKind, f_cvLeft, f_cvRight, f_cvWide, f_inHead, f_inSize, f_outHead, f_outSize, f_lastCode, f_lastDetail, f_cacheLimit, f_lengthLimit, f_hand, f_running, f_linkFrom, f_exitKind, f_controlDone, f_trapCode, f_trapDetail, a_mem, a_marks, a_visitCount, a_inQueue, a_outQueue, a_blockStart, a_blockCount, a_blockRecent, a_links, a_entry, a_cover, a_opKind, a_opMode, a_opArg) 6 v := by
  iterate 8 refine br_f (by decide) ?_
  refine br_t (by decide) ?_
  refine nm_e ?_
  exact xs_setZn h
theorem xo_7 {post : Int32 → SX → Prop} {v : Int32} (h : post 1 (f_size, f_executedCount, f_regA ||| v, f_regX, f_regS, f_pc, f_flagBits, 1, f_regA ||| v, f_cvKind, f_cvLeft, f_cvRight, f_cvWide, f_inHead, f_inSize, f_outHead, f_outSize, f_lastCode, f_lastDetail, f_cacheLimit, f_lengthLimit, f_hand, f_running, f_linkFrom, f_exitKind, f_controlDone, f_trapCode, f_trapDetail, a_mem, a_marks, a_visitCount, a_inQueue, a_outQueue, a_blockStart, a_blockCount, a_blockRecent, a_links, a_entry, a_cover, a_opKind, a_opMode, a_opArg)) : wpX_operate post (f_size, f_executedCount, f_regA, f_regX, f_regS, f_pc, f_flagBits, f_znPending, f_znResult, f_cvKind, f_cvLeft, f_cvRight, f_cvWide, f_inHead, f_inSize, f_outHead, f_outSize, f_lastCode, f_lastDetail, f_cacheLimit, f_lengthLimit, f_hand, f_running, f_linkFrom, f_exitKind, f_controlDone, f_trapCode, f_trapDetail, a_mem, a_marks, a_visitCount, a_inQueue, a_outQueue, a_blockStart, a_blockCount, a_blockRecent, a_links, a_entry, a_cover, a_opKind, a_opMode, a_opArg) 7 v := by
  iterate 9 refine br_f (by decide) ?_
  refine br_t (by decide) ?_
  refine nm_e ?_
  exact xs_setZn h
theorem xo_8 {post : Int32 → SX → Prop} {v : Int32} (h : post 1 (f_size, f_executedCount, f_regA ^^^ v, f_regX, f_regS, f_pc, f_flagBits, 1, f_regA ^^^ v, f_cvKind, f_cvLeft, f_cvRight, f_cvWide, f_inHead, f_inSize, f_outHead, f_outSize, f_lastCode, f_lastDetail, f_cacheLimit, f_lengthLimit, f_hand, f_running, f_linkFrom, f_exitKind, f_controlDone, f_trapCode, f_trapDetail, a_mem, a_marks, a_visitCount, a_inQueue, a_outQueue, a_blockStart, a_blockCount, a_blockRecent, a_links, a_entry, a_cover, a_opKind, a_opMode, a_opArg)) : wpX_operate post (f_size, f_executedCount, f_regA, f_regX, f_regS, f_pc, f_flagBits, f_znPending, f_znResult, f_cvKind, f_cvLeft, f_cvRight, f_cvWide, f_inHead, f_inSize, f_outHead, f_outSize, f_lastCode, f_lastDetail, f_cacheLimit, f_lengthLimit, f_hand, f_running, f_linkFrom, f_exitKind, f_controlDone, f_trapCode, f_trapDetail, a_mem, a_marks, a_visitCount, a_inQueue, a_outQueue, a_blockStart, a_blockCount, a_blockRecent, a_links, a_entry, a_cover, a_opKind, a_opMode, a_opArg) 8 v := by
  iterate 10 refine br_f (by decide) ?_
  refine br_t (by decide) ?_
  refine nm_e ?_
  exact xs_setZn h
theorem xo_9T {post : Int32 → SX → Prop} {v : Int32} (hv : v = 0) (h : post 0 (f_size, f_executedCount, f_regA, f_regX, f_regS, f_pc, f_flagBits, f_znPending, f_znResult, f_cvKind, f_cvLeft, f_cvRight, f_cvWide, f_inHead, f_inSize, f_outHead, f_outSize, f_lastCode, f_lastDetail, f_cacheLimit, f_lengthLimit, f_hand, f_running, f_linkFrom, f_exitKind, f_controlDone, 10, 0, a_mem, a_marks, a_visitCount, a_inQueue, a_outQueue, a_blockStart, a_blockCount, a_blockRecent, a_links, a_entry, a_cover, a_opKind, a_opMode, a_opArg)) : wpX_operate post (f_size, f_executedCount, f_regA, f_regX, f_regS, f_pc, f_flagBits, f_znPending, f_znResult, f_cvKind, f_cvLeft, f_cvRight, f_cvWide, f_inHead, f_inSize, f_outHead, f_outSize, f_lastCode, f_lastDetail, f_cacheLimit, f_lengthLimit, f_hand, f_running, f_linkFrom, f_exitKind, f_controlDone, f_trapCode, f_trapDetail, a_mem, a_marks, a_visitCount, a_inQueue, a_outQueue, a_blockStart, a_blockCount, a_blockRecent, a_links, a_entry, a_cover, a_opKind, a_opMode, a_opArg) 9 v := by
  iterate 11 refine br_f (by decide) ?_
  refine br_t (by decide) ?_
  refine xs_divT hv ?_
  exact ⟨rfl, h⟩
theorem xo_9 {post : Int32 → SX → Prop} {v : Int32} (hv : ¬ v = 0) (h : post 1 (f_size, f_executedCount, f_regA / v, f_regA - f_regA / v * v, f_regS, f_pc, f_flagBits, 1, f_regA / v, f_cvKind, f_cvLeft, f_cvRight, f_cvWide, f_inHead, f_inSize, f_outHead, f_outSize, f_lastCode, f_lastDetail, f_cacheLimit, f_lengthLimit, f_hand, f_running, f_linkFrom, f_exitKind, f_controlDone, f_trapCode, f_trapDetail, a_mem, a_marks, a_visitCount, a_inQueue, a_outQueue, a_blockStart, a_blockCount, a_blockRecent, a_links, a_entry, a_cover, a_opKind, a_opMode, a_opArg)) : wpX_operate post (f_size, f_executedCount, f_regA, f_regX, f_regS, f_pc, f_flagBits, f_znPending, f_znResult, f_cvKind, f_cvLeft, f_cvRight, f_cvWide, f_inHead, f_inSize, f_outHead, f_outSize, f_lastCode, f_lastDetail, f_cacheLimit, f_lengthLimit, f_hand, f_running, f_linkFrom, f_exitKind, f_controlDone, f_trapCode, f_trapDetail, a_mem, a_marks, a_visitCount, a_inQueue, a_outQueue, a_blockStart, a_blockCount, a_blockRecent, a_links, a_entry, a_cover, a_opKind, a_opMode, a_opArg) 9 v := by
  iterate 11 refine br_f (by decide) ?_
  refine br_t (by decide) ?_
  refine xs_div hv ?_
  exact ⟨rfl, h⟩
theorem xo_10 {post : Int32 → SX → Prop} {v : Int32} (h : post 1 (f_size, f_executedCount, f_regA, v, f_regS, f_pc, f_flagBits, 1, v, f_cvKind, f_cvLeft, f_cvRight, f_cvWide, f_inHead, f_inSize, f_outHead, f_outSize, f_lastCode, f_lastDetail, f_cacheLimit, f_lengthLimit, f_hand, f_running, f_linkFrom, f_exitKind, f_controlDone, f_trapCode, f_trapDetail, a_mem, a_marks, a_visitCount, a_inQueue, a_outQueue, a_blockStart, a_blockCount, a_blockRecent, a_links, a_entry, a_cover, a_opKind, a_opMode, a_opArg)) : wpX_operate post (f_size, f_executedCount, f_regA, f_regX, f_regS, f_pc, f_flagBits, f_znPending, f_znResult, f_cvKind, f_cvLeft, f_cvRight, f_cvWide, f_inHead, f_inSize, f_outHead, f_outSize, f_lastCode, f_lastDetail, f_cacheLimit, f_lengthLimit, f_hand, f_running, f_linkFrom, f_exitKind, f_controlDone, f_trapCode, f_trapDetail, a_mem, a_marks, a_visitCount, a_inQueue, a_outQueue, a_blockStart, a_blockCount, a_blockRecent, a_links, a_entry, a_cover, a_opKind, a_opMode, a_opArg) 10 v := by
  refine br_f (by decide) ?_
  refine br_t (by decide) ?_
  exact xs_setZn h
/-! plain, by kind -/
theorem xp_1 {post : Int32 → SX → Prop} (h : post 1 (f_size, f_executedCount, f_regA, f_regX, f_regS, f_pc, f_flagBits, f_znPending, f_znResult, f_cvKind, f_cvLeft, f_cvRight, f_cvWide, f_inHead, f_inSize, f_outHead, f_outSize, f_lastCode, f_lastDetail, f_cacheLimit, f_lengthLimit, f_hand, f_running, f_linkFrom, f_exitKind, f_controlDone, f_trapCode, f_trapDetail, a_mem, a_marks, a_visitCount, a_inQueue, a_outQueue, a_blockStart, a_blockCount, a_blockRecent, a_links, a_entry, a_cover, a_opKind, a_opMode, a_opArg)) : wpX_plain post (f_size, f_executedCount, f_regA, f_regX, f_regS, f_pc, f_flagBits, f_znPending, f_znResult, f_cvKind, f_cvLeft, f_cvRight, f_cvWide, f_inHead, f_inSize, f_outHead, f_outSize, f_lastCode, f_lastDetail, f_cacheLimit, f_lengthLimit, f_hand, f_running, f_linkFrom, f_exitKind, f_controlDone, f_trapCode, f_trapDetail, a_mem, a_marks, a_visitCount, a_inQueue, a_outQueue, a_blockStart, a_blockCount, a_blockRecent, a_links, a_entry, a_cover, a_opKind, a_opMode, a_opArg) 1 := br_t (by decide) h
theorem xp_2 {post : Int32 → SX → Prop} (h : post 1 (f_size, f_executedCount, f_regA, f_regA, f_regS, f_pc, f_flagBits, f_znPending, f_znResult, f_cvKind, f_cvLeft, f_cvRight, f_cvWide, f_inHead, f_inSize, f_outHead, f_outSize, f_lastCode, f_lastDetail, f_cacheLimit, f_lengthLimit, f_hand, f_running, f_linkFrom, f_exitKind, f_controlDone, f_trapCode, f_trapDetail, a_mem, a_marks, a_visitCount, a_inQueue, a_outQueue, a_blockStart, a_blockCount, a_blockRecent, a_links, a_entry, a_cover, a_opKind, a_opMode, a_opArg)) : wpX_plain post (f_size, f_executedCount, f_regA, f_regX, f_regS, f_pc, f_flagBits, f_znPending, f_znResult, f_cvKind, f_cvLeft, f_cvRight, f_cvWide, f_inHead, f_inSize, f_outHead, f_outSize, f_lastCode, f_lastDetail, f_cacheLimit, f_lengthLimit, f_hand, f_running, f_linkFrom, f_exitKind, f_controlDone, f_trapCode, f_trapDetail, a_mem, a_marks, a_visitCount, a_inQueue, a_outQueue, a_blockStart, a_blockCount, a_blockRecent, a_links, a_entry, a_cover, a_opKind, a_opMode, a_opArg) 2 := by
  iterate 2 refine br_f (by decide) ?_
  exact br_t (by decide) h
theorem xp_3 {post : Int32 → SX → Prop} (h : post 1 (f_size, f_executedCount, f_regA, f_regX, f_regX, f_pc, f_flagBits, f_znPending, f_znResult, f_cvKind, f_cvLeft, f_cvRight, f_cvWide, f_inHead, f_inSize, f_outHead, f_outSize, f_lastCode, f_lastDetail, f_cacheLimit, f_lengthLimit, f_hand, f_running, f_linkFrom, f_exitKind, f_controlDone, f_trapCode, f_trapDetail, a_mem, a_marks, a_visitCount, a_inQueue, a_outQueue, a_blockStart, a_blockCount, a_blockRecent, a_links, a_entry, a_cover, a_opKind, a_opMode, a_opArg)) : wpX_plain post (f_size, f_executedCount, f_regA, f_regX, f_regS, f_pc, f_flagBits, f_znPending, f_znResult, f_cvKind, f_cvLeft, f_cvRight, f_cvWide, f_inHead, f_inSize, f_outHead, f_outSize, f_lastCode, f_lastDetail, f_cacheLimit, f_lengthLimit, f_hand, f_running, f_linkFrom, f_exitKind, f_controlDone, f_trapCode, f_trapDetail, a_mem, a_marks, a_visitCount, a_inQueue, a_outQueue, a_blockStart, a_blockCount, a_blockRecent, a_links, a_entry, a_cover, a_opKind, a_opMode, a_opArg) 3 := by
  iterate 3 refine br_f (by decide) ?_
  exact br_t (by decide) h
theorem xp_4 {post : Int32 → SX → Prop} (h : post 1 (f_size, f_executedCount, f_regA, f_regS, f_regS, f_pc, f_flagBits, f_znPending, f_znResult, f_cvKind, f_cvLeft, f_cvRight, f_cvWide, f_inHead, f_inSize, f_outHead, f_outSize, f_lastCode, f_lastDetail, f_cacheLimit, f_lengthLimit, f_hand, f_running, f_linkFrom, f_exitKind, f_controlDone, f_trapCode, f_trapDetail, a_mem, a_marks, a_visitCount, a_inQueue, a_outQueue, a_blockStart, a_blockCount, a_blockRecent, a_links, a_entry, a_cover, a_opKind, a_opMode, a_opArg)) : wpX_plain post (f_size, f_executedCount, f_regA, f_regX, f_regS, f_pc, f_flagBits, f_znPending, f_znResult, f_cvKind, f_cvLeft, f_cvRight, f_cvWide, f_inHead, f_inSize, f_outHead, f_outSize, f_lastCode, f_lastDetail, f_cacheLimit, f_lengthLimit, f_hand, f_running, f_linkFrom, f_exitKind, f_controlDone, f_trapCode, f_trapDetail, a_mem, a_marks, a_visitCount, a_inQueue, a_outQueue, a_blockStart, a_blockCount, a_blockRecent, a_links, a_entry, a_cover, a_opKind, a_opMode, a_opArg) 4 := by
  iterate 4 refine br_f (by decide) ?_
  exact br_t (by decide) h
theorem xp_5 {post : Int32 → SX → Prop} (h : post 1 (f_size, f_executedCount, f_regA, (f_regX + 1) &&& 65535, f_regS, f_pc, f_flagBits, 1, (f_regX + 1) &&& 65535, f_cvKind, f_cvLeft, f_cvRight, f_cvWide, f_inHead, f_inSize, f_outHead, f_outSize, f_lastCode, f_lastDetail, f_cacheLimit, f_lengthLimit, f_hand, f_running, f_linkFrom, f_exitKind, f_controlDone, f_trapCode, f_trapDetail, a_mem, a_marks, a_visitCount, a_inQueue, a_outQueue, a_blockStart, a_blockCount, a_blockRecent, a_links, a_entry, a_cover, a_opKind, a_opMode, a_opArg)) : wpX_plain post (f_size, f_executedCount, f_regA, f_regX, f_regS, f_pc, f_flagBits, f_znPending, f_znResult, f_cvKind, f_cvLeft, f_cvRight, f_cvWide, f_inHead, f_inSize, f_outHead, f_outSize, f_lastCode, f_lastDetail, f_cacheLimit, f_lengthLimit, f_hand, f_running, f_linkFrom, f_exitKind, f_controlDone, f_trapCode, f_trapDetail, a_mem, a_marks, a_visitCount, a_inQueue, a_outQueue, a_blockStart, a_blockCount, a_blockRecent, a_links, a_entry, a_cover, a_opKind, a_opMode, a_opArg) 5 := by
  iterate 5 refine br_f (by decide) ?_
  exact br_t (by decide) (nm_e (xs_setZn h))
theorem xp_6 {post : Int32 → SX → Prop} (h : post 1 (f_size, f_executedCount, f_regA, (f_regX - 1) &&& 65535, f_regS, f_pc, f_flagBits, 1, (f_regX - 1) &&& 65535, f_cvKind, f_cvLeft, f_cvRight, f_cvWide, f_inHead, f_inSize, f_outHead, f_outSize, f_lastCode, f_lastDetail, f_cacheLimit, f_lengthLimit, f_hand, f_running, f_linkFrom, f_exitKind, f_controlDone, f_trapCode, f_trapDetail, a_mem, a_marks, a_visitCount, a_inQueue, a_outQueue, a_blockStart, a_blockCount, a_blockRecent, a_links, a_entry, a_cover, a_opKind, a_opMode, a_opArg)) : wpX_plain post (f_size, f_executedCount, f_regA, f_regX, f_regS, f_pc, f_flagBits, f_znPending, f_znResult, f_cvKind, f_cvLeft, f_cvRight, f_cvWide, f_inHead, f_inSize, f_outHead, f_outSize, f_lastCode, f_lastDetail, f_cacheLimit, f_lengthLimit, f_hand, f_running, f_linkFrom, f_exitKind, f_controlDone, f_trapCode, f_trapDetail, a_mem, a_marks, a_visitCount, a_inQueue, a_outQueue, a_blockStart, a_blockCount, a_blockRecent, a_links, a_entry, a_cover, a_opKind, a_opMode, a_opArg) 6 := by
  iterate 6 refine br_f (by decide) ?_
  exact br_t (by decide) (nm_e (xs_setZn h))
theorem xp_7 {post : Int32 → SX → Prop} (h : post 1 (f_size, f_executedCount, (f_regA <<< ((1 : Int32) &&& 31)) &&& 65535, f_regX, f_regS, f_pc, fg_sc f_flagBits ((f_regA >>> ((15 : Int32) &&& 31)) &&& 1) (fg_vb f_flagBits f_cvKind f_cvLeft f_cvRight f_cvWide), 1, (f_regA <<< ((1 : Int32) &&& 31)) &&& 65535, 0, f_cvLeft, f_cvRight, f_cvWide, f_inHead, f_inSize, f_outHead, f_outSize, f_lastCode, f_lastDetail, f_cacheLimit, f_lengthLimit, f_hand, f_running, f_linkFrom, f_exitKind, f_controlDone, f_trapCode, f_trapDetail, a_mem, a_marks, a_visitCount, a_inQueue, a_outQueue, a_blockStart, a_blockCount, a_blockRecent, a_links, a_entry, a_cover, a_opKind, a_opMode, a_opArg)) : wpX_plain post (f_size, f_executedCount, f_regA, f_regX, f_regS, f_pc, f_flagBits, f_znPending, f_znResult, f_cvKind, f_cvLeft, f_cvRight, f_cvWide, f_inHead, f_inSize, f_outHead, f_outSize, f_lastCode, f_lastDetail, f_cacheLimit, f_lengthLimit, f_hand, f_running, f_linkFrom, f_exitKind, f_controlDone, f_trapCode, f_trapDetail, a_mem, a_marks, a_visitCount, a_inQueue, a_outQueue, a_blockStart, a_blockCount, a_blockRecent, a_links, a_entry, a_cover, a_opKind, a_opMode, a_opArg) 7 := by
  iterate 7 refine br_f (by decide) ?_
  refine br_t (by decide) ?_
  refine xs_setCarry ?_
  refine nm_e ?_
  exact xs_setZn h
theorem xp_8 {post : Int32 → SX → Prop} (h : post 1 (f_size, f_executedCount, f_regA >>> ((1 : Int32) &&& 31), f_regX, f_regS, f_pc, fg_sc f_flagBits (f_regA &&& 1) (fg_vb f_flagBits f_cvKind f_cvLeft f_cvRight f_cvWide), 1, f_regA >>> ((1 : Int32) &&& 31), 0, f_cvLeft, f_cvRight, f_cvWide, f_inHead, f_inSize, f_outHead, f_outSize, f_lastCode, f_lastDetail, f_cacheLimit, f_lengthLimit, f_hand, f_running, f_linkFrom, f_exitKind, f_controlDone, f_trapCode, f_trapDetail, a_mem, a_marks, a_visitCount, a_inQueue, a_outQueue, a_blockStart, a_blockCount, a_blockRecent, a_links, a_entry, a_cover, a_opKind, a_opMode, a_opArg)) : wpX_plain post (f_size, f_executedCount, f_regA, f_regX, f_regS, f_pc, f_flagBits, f_znPending, f_znResult, f_cvKind, f_cvLeft, f_cvRight, f_cvWide, f_inHead, f_inSize, f_outHead, f_outSize, f_lastCode, f_lastDetail, f_cacheLimit, f_lengthLimit, f_hand, f_running, f_linkFrom, f_exitKind, f_controlDone, f_trapCode, f_trapDetail, a_mem, a_marks, a_visitCount, a_inQueue, a_outQueue, a_blockStart, a_blockCount, a_blockRecent, a_links, a_entry, a_cover, a_opKind, a_opMode, a_opArg) 8 := by
  iterate 8 refine br_f (by decide) ?_
  refine br_t (by decide) ?_
  refine xs_setCarry ?_
  refine nm_e ?_
  exact xs_setZn h
theorem xp_9T {post : Int32 → SX → Prop} (hc : f_inSize = 0) (h : post 0 (f_size, f_executedCount, f_regA, f_regX, f_regS, f_pc, f_flagBits, f_znPending, f_znResult, f_cvKind, f_cvLeft, f_cvRight, f_cvWide, f_inHead, f_inSize, f_outHead, f_outSize, f_lastCode, f_lastDetail, f_cacheLimit, f_lengthLimit, f_hand, f_running, f_linkFrom, f_exitKind, f_controlDone, 5, 0, a_mem, a_marks, a_visitCount, a_inQueue, a_outQueue, a_blockStart, a_blockCount, a_blockRecent, a_links, a_entry, a_cover, a_opKind, a_opMode, a_opArg)) : wpX_plain post (f_size, f_executedCount, f_regA, f_regX, f_regS, f_pc, f_flagBits, f_znPending, f_znResult, f_cvKind, f_cvLeft, f_cvRight, f_cvWide, f_inHead, f_inSize, f_outHead, f_outSize, f_lastCode, f_lastDetail, f_cacheLimit, f_lengthLimit, f_hand, f_running, f_linkFrom, f_exitKind, f_controlDone, f_trapCode, f_trapDetail, a_mem, a_marks, a_visitCount, a_inQueue, a_outQueue, a_blockStart, a_blockCount, a_blockRecent, a_links, a_entry, a_cover, a_opKind, a_opMode, a_opArg) 9 := by
  iterate 9 refine br_f (by decide) ?_
  refine br_t (by decide) ?_
  refine br_t hc ?_
  refine xs_trap ?_
  exact ⟨rfl, rfl, h⟩
theorem xp_9 {post : Int32 → SX → Prop} {hd c : Nat} (hh : hd < 16) (h0 : 0 < c) (hc : c ≤ 16) (h : post 1 (f_size, f_executedCount, a_inQueue hd, f_regX, f_regS, f_pc, f_flagBits, 1, a_inQueue hd, f_cvKind, f_cvLeft, f_cvRight, f_cvWide, nI ((hd + 1) % 16), nI (c - 1), f_outHead, f_outSize, f_lastCode, f_lastDetail, f_cacheLimit, f_lengthLimit, f_hand, f_running, f_linkFrom, f_exitKind, f_controlDone, f_trapCode, f_trapDetail, a_mem, a_marks, a_visitCount, a_inQueue, a_outQueue, a_blockStart, a_blockCount, a_blockRecent, a_links, a_entry, a_cover, a_opKind, a_opMode, a_opArg)) : wpX_plain post (f_size, f_executedCount, f_regA, f_regX, f_regS, f_pc, f_flagBits, f_znPending, f_znResult, f_cvKind, f_cvLeft, f_cvRight, f_cvWide, nI hd, nI c, f_outHead, f_outSize, f_lastCode, f_lastDetail, f_cacheLimit, f_lengthLimit, f_hand, f_running, f_linkFrom, f_exitKind, f_controlDone, f_trapCode, f_trapDetail, a_mem, a_marks, a_visitCount, a_inQueue, a_outQueue, a_blockStart, a_blockCount, a_blockRecent, a_links, a_entry, a_cover, a_opKind, a_opMode, a_opArg) 9 := by
  iterate 9 refine br_f (by decide) ?_
  refine br_t (by decide) ?_
  refine br_f (nI_ne0 h0 (by omega)) ?_
  refine And.intro (vp_in_nI hh (by decide)) ?_
  refine nm_r (e' := a_inQueue hd) (by rw [nI_clamp (by omega)]) ?_
  refine xs_ring (o := 1) hh (by decide) ?_
  refine nm_r (e' := nI (c - 1)) (pk_sub (b := 1) h0) ?_
  refine xs_setZn ?_
  exact ⟨rfl, h⟩
theorem xp_10T {post : Int32 → SX → Prop} (hc : ¬ f_outSize < 16) (h : post 0 (f_size, f_executedCount, f_regA, f_regX, f_regS, f_pc, f_flagBits, f_znPending, f_znResult, f_cvKind, f_cvLeft, f_cvRight, f_cvWide, f_inHead, f_inSize, f_outHead, f_outSize, f_lastCode, f_lastDetail, f_cacheLimit, f_lengthLimit, f_hand, f_running, f_linkFrom, f_exitKind, f_controlDone, 6, 0, a_mem, a_marks, a_visitCount, a_inQueue, a_outQueue, a_blockStart, a_blockCount, a_blockRecent, a_links, a_entry, a_cover, a_opKind, a_opMode, a_opArg)) : wpX_plain post (f_size, f_executedCount, f_regA, f_regX, f_regS, f_pc, f_flagBits, f_znPending, f_znResult, f_cvKind, f_cvLeft, f_cvRight, f_cvWide, f_inHead, f_inSize, f_outHead, f_outSize, f_lastCode, f_lastDetail, f_cacheLimit, f_lengthLimit, f_hand, f_running, f_linkFrom, f_exitKind, f_controlDone, f_trapCode, f_trapDetail, a_mem, a_marks, a_visitCount, a_inQueue, a_outQueue, a_blockStart, a_blockCount, a_blockRecent, a_links, a_entry, a_cover, a_opKind, a_opMode, a_opArg) 10 := by
  iterate 10 refine br_f (by decide) ?_
  refine br_t (by decide) ?_
  refine br_f hc ?_
  refine xs_trap ?_
  exact ⟨rfl, rfl, h⟩
theorem xp_10 {post : Int32 → SX → Prop} {hd c : Nat} (hh : hd < 16) (hc : c < 16) (h : post 1 (f_size, f_executedCount, f_regA, f_regX, f_regS, f_pc, f_flagBits, f_znPending, f_znResult, f_cvKind, f_cvLeft, f_cvRight, f_cvWide, f_inHead, f_inSize, nI hd, nI (c + 1), f_lastCode, f_lastDetail, f_cacheLimit, f_lengthLimit, f_hand, f_running, f_linkFrom, f_exitKind, f_controlDone, f_trapCode, f_trapDetail, a_mem, a_marks, a_visitCount, a_inQueue, upd a_outQueue ((hd + c) % 16) f_regA, a_blockStart, a_blockCount, a_blockRecent, a_links, a_entry, a_cover, a_opKind, a_opMode, a_opArg)) : wpX_plain post (f_size, f_executedCount, f_regA, f_regX, f_regS, f_pc, f_flagBits, f_znPending, f_znResult, f_cvKind, f_cvLeft, f_cvRight, f_cvWide, f_inHead, f_inSize, nI hd, nI c, f_lastCode, f_lastDetail, f_cacheLimit, f_lengthLimit, f_hand, f_running, f_linkFrom, f_exitKind, f_controlDone, f_trapCode, f_trapDetail, a_mem, a_marks, a_visitCount, a_inQueue, a_outQueue, a_blockStart, a_blockCount, a_blockRecent, a_links, a_entry, a_cover, a_opKind, a_opMode, a_opArg) 10 := by
  iterate 10 refine br_f (by decide) ?_
  refine br_t (by decide) ?_
  refine br_t (nI_lt (b := 16) hc (by decide)) ?_
  refine xs_ring hh (by omega) ?_
  refine And.intro (vp_in_nI (Nat.mod_lt _ (by decide)) (by decide)) ?_
  refine nm_r (e' := upd a_outQueue ((hd + c) % 16) f_regA) (by rw [nI_clamp (by omega)]) ?_
  refine nm_r (e' := nI (c + 1)) (nI_1 c) ?_
  exact ⟨rfl, h⟩
/-! conditions -/
theorem xs_c78 {post : Int32 → Prop} {k b : Int32} (h : post (if b = (k &&& 1) then 0 else 1)) : wX_conditionHolds_78 post k b f_size f_executedCount f_regA f_regX f_regS f_pc f_flagBits f_znPending f_znResult f_cvKind f_cvLeft f_cvRight f_cvWide f_inHead f_inSize f_outHead f_outSize f_lastCode f_lastDetail f_cacheLimit f_lengthLimit f_hand f_running f_linkFrom f_exitKind f_controlDone f_trapCode f_trapDetail a_mem a_marks a_visitCount a_inQueue a_outQueue a_blockStart a_blockCount a_blockRecent a_links a_entry a_cover a_opKind a_opMode a_opArg :=
  ab_if (P := post) h id id
end XS
end
section
/-! X: conditions, control, steps that store no memory (printed by gen04.py) -/
theorem fg_even {k z : Int32} (hk : k &&& 1 = 0) (hz : fg_B z) : (if z = (k &&& 1) then (0 : Int32) else 1) = z := by
  rw [hk]; rcases hz with rfl | rfl <;> decide
theorem fg_odd {k z : Int32} (hk : k &&& 1 = 1) (hz : fg_B z) : (if z = (k &&& 1) then (0 : Int32) else 1) = if z = 0 then 1 else 0 := by
  rw [hk]; rcases hz with rfl | rfl <;> decide
theorem fg_xe {k n v : Int32} (hk : k &&& 1 = 0) (hn : fg_B n) (hv : fg_B v) : (if n ^^^ v = (k &&& 1) then (0 : Int32) else 1) = if n = v then 0 else 1 := by
  rw [hk]; rcases hn with rfl | rfl <;> rcases hv with rfl | rfl <;> decide
theorem fg_xo {k n v : Int32} (hk : k &&& 1 = 1) (hn : fg_B n) (hv : fg_B v) : (if n ^^^ v = (k &&& 1) then (0 : Int32) else 1) = if n = v then 1 else 0 := by
  rw [hk]; rcases hn with rfl | rfl <;> rcases hv with rfl | rfl <;> decide
section XT
variable {f_size f_executedCount f_regA f_regX f_regS f_pc f_flagBits f_znPending f_znResult f_cvKind f_cvLeft f_cvRight f_cvWide f_inHead f_inSize f_outHead f_outSize f_lastCode f_lastDetail f_cacheLimit f_lengthLimit f_hand f_running f_linkFrom f_exitKind f_controlDone f_trapCode f_trapDetail : Int32} {a_mem a_marks a_visitCount a_inQueue a_outQueue a_blockStart a_blockCount a_blockRecent a_links a_entry a_cover a_opKind a_opMode a_opArg : Nat → Int32}
theorem xs_cd20 {post : Int32 → Prop} (h : post (fg_zb f_flagBits f_znPending f_znResult)) : wpX_conditionHolds post (f_size, f_executedCount, f_regA, f_regX, f_regS, f_pc, f_flagBits, f_znPending, f_znResult, f_cvKind, f_cvLeft, f_cvRight, f_cvWide, f_inHead, f_inSize, f_outHead, f_outSize, f_lastCode, f_lastDetail, f_cacheLimit, f_lengthLimit, f_hand, f_running, f_linkFrom, f_exitKind, f_controlDone, f_trapCode, f_trapDetail, a_mem, a_marks, a_visitCount, a_inQueue, a_outQueue, a_blockStart, a_blockCount, a_blockRecent, a_links, a_entry, a_cover, a_opKind, a_opMode, a_opArg) 20 := by
  refine nm_r (e' := 0) (by decide) ?_
  iterate 2 refine br_f (by decide) ?_
  refine br_t (by decide) ?_
  refine xs_zeroBit ?_
  refine xs_c78 ?_
  rw [fg_even (by decide) (fg_zbB _ _ _)]; exact h
theorem xs_cd21 {post : Int32 → Prop} (h : post (if fg_zb f_flagBits f_znPending f_znResult = 0 then 1 else 0)) : wpX_conditionHolds post (f_size, f_executedCount, f_regA, f_regX, f_regS, f_pc, f_flagBits, f_znPending, f_znResult, f_cvKind, f_cvLeft, f_cvRight, f_cvWide, f_inHead, f_inSize, f_outHead, f_outSize, f_lastCode, f_lastDetail, f_cacheLimit, f_lengthLimit, f_hand, f_running, f_linkFrom, f_exitKind, f_controlDone, f_trapCode, f_trapDetail, a_mem, a_marks, a_visitCount, a_inQueue, a_outQueue, a_blockStart, a_blockCount, a_blockRecent, a_links, a_entry, a_cover, a_opKind, a_opMode, a_opArg) 21 := by
  refine nm_r (e' := 0) (by decide) ?_
  iterate 2 refine br_f (by decide) ?_
  refine br_t (by decide) ?_
  refine xs_zeroBit ?_
  refine xs_c78 ?_
  rw [fg_odd (by decide) (fg_zbB _ _ _)]; exact h
theorem xs_cd22 {post : Int32 → Prop} (h : post (fg_cb f_flagBits f_cvKind f_cvWide)) : wpX_conditionHolds post (f_size, f_executedCount, f_regA, f_regX, f_regS, f_pc, f_flagBits, f_znPending, f_znResult, f_cvKind, f_cvLeft, f_cvRight, f_cvWide, f_inHead, f_inSize, f_outHead, f_outSize, f_lastCode, f_lastDetail, f_cacheLimit, f_lengthLimit, f_hand, f_running, f_linkFrom, f_exitKind, f_controlDone, f_trapCode, f_trapDetail, a_mem, a_marks, a_visitCount, a_inQueue, a_outQueue, a_blockStart, a_blockCount, a_blockRecent, a_links, a_entry, a_cover, a_opKind, a_opMode, a_opArg) 22 := by
  refine nm_r (e' := 1) (by decide) ?_
  iterate 3 refine br_f (by decide) ?_
  refine br_t (by decide) ?_
  refine xs_carryBit ?_
  refine xs_c78 ?_
  rw [fg_even (by decide) (fg_cbB _ _ _)]; exact h
theorem xs_cd23 {post : Int32 → Prop} (h : post (if fg_cb f_flagBits f_cvKind f_cvWide = 0 then 1 else 0)) : wpX_conditionHolds post (f_size, f_executedCount, f_regA, f_regX, f_regS, f_pc, f_flagBits, f_znPending, f_znResult, f_cvKind, f_cvLeft, f_cvRight, f_cvWide, f_inHead, f_inSize, f_outHead, f_outSize, f_lastCode, f_lastDetail, f_cacheLimit, f_lengthLimit, f_hand, f_running, f_linkFrom, f_exitKind, f_controlDone, f_trapCode, f_trapDetail, a_mem, a_marks, a_visitCount, a_inQueue, a_outQueue, a_blockStart, a_blockCount, a_blockRecent, a_links, a_entry, a_cover, a_opKind, a_opMode, a_opArg) 23 := by
  refine nm_r (e' := 1) (by decide) ?_
  iterate 3 refine br_f (by decide) ?_
  refine br_t (by decide) ?_
  refine xs_carryBit ?_
  refine xs_c78 ?_
  rw [fg_odd (by decide) (fg_cbB _ _ _)]; exact h
theorem xs_cd24 {post : Int32 → Prop} (h : post (fg_nb f_flagBits f_znPending f_znResult)) : wpX_conditionHolds post (f_size, f_executedCount, f_regA, f_regX, f_regS, f_pc, f_flagBits, f_znPending, f_znResult, f_cvKind, f_cvLeft, f_cvRight, f_cvWide, f_inHead, f_inSize, f_outHead, f_outSize, f_lastCode, f_lastDetail, f_cacheLimit, f_lengthLimit, f_hand, f_running, f_linkFrom, f_exitKind, f_controlDone, f_trapCode, f_trapDetail, a_mem, a_marks, a_visitCount, a_inQueue, a_outQueue, a_blockStart, a_blockCount, a_blockRecent, a_links, a_entry, a_cover, a_opKind, a_opMode, a_opArg) 24 := by
  refine nm_r (e' := 2) (by decide) ?_
  iterate 4 refine br_f (by decide) ?_
  refine br_t (by decide) ?_
  refine xs_negativeBit ?_
  refine xs_c78 ?_
  rw [fg_even (by decide) (fg_nbB _ _ _)]; exact h
theorem xs_cd25 {post : Int32 → Prop} (h : post (if fg_nb f_flagBits f_znPending f_znResult = 0 then 1 else 0)) : wpX_conditionHolds post (f_size, f_executedCount, f_regA, f_regX, f_regS, f_pc, f_flagBits, f_znPending, f_znResult, f_cvKind, f_cvLeft, f_cvRight, f_cvWide, f_inHead, f_inSize, f_outHead, f_outSize, f_lastCode, f_lastDetail, f_cacheLimit, f_lengthLimit, f_hand, f_running, f_linkFrom, f_exitKind, f_controlDone, f_trapCode, f_trapDetail, a_mem, a_marks, a_visitCount, a_inQueue, a_outQueue, a_blockStart, a_blockCount, a_blockRecent, a_links, a_entry, a_cover, a_opKind, a_opMode, a_opArg) 25 := by
  refine nm_r (e' := 2) (by decide) ?_
  iterate 4 refine br_f (by decide) ?_
  refine br_t (by decide) ?_
  refine xs_negativeBit ?_
  refine xs_c78 ?_
  rw [fg_odd (by decide) (fg_nbB _ _ _)]; exact h
theorem xs_cd26 {post : Int32 → Prop} (h : post (fg_vb f_flagBits f_cvKind f_cvLeft f_cvRight f_cvWide)) : wpX_conditionHolds post (f_size, f_executedCount, f_regA, f_regX, f_regS, f_pc, f_flagBits, f_znPending, f_znResult, f_cvKind, f_cvLeft, f_cvRight, f_cvWide, f_inHead, f_inSize, f_outHead, f_outSize, f_lastCode, f_lastDetail, f_cacheLimit, f_lengthLimit, f_hand, f_running, f_linkFrom, f_exitKind, f_controlDone, f_trapCode, f_trapDetail, a_mem, a_marks, a_visitCount, a_inQueue, a_outQueue, a_blockStart, a_blockCount, a_blockRecent, a_links, a_entry, a_cover, a_opKind, a_opMode, a_opArg) 26 := by
  refine nm_r (e' := 3) (by decide) ?_
  iterate 5 refine br_f (by decide) ?_
  refine br_t (by decide) ?_
  refine xs_overflowBit ?_
  refine xs_c78 ?_
  rw [fg_even (by decide) (fg_vbB _ _ _ _ _)]; exact h
theorem xs_cd27 {post : Int32 → Prop} (h : post (if fg_vb f_flagBits f_cvKind f_cvLeft f_cvRight f_cvWide = 0 then 1 else 0)) : wpX_conditionHolds post (f_size, f_executedCount, f_regA, f_regX, f_regS, f_pc, f_flagBits, f_znPending, f_znResult, f_cvKind, f_cvLeft, f_cvRight, f_cvWide, f_inHead, f_inSize, f_outHead, f_outSize, f_lastCode, f_lastDetail, f_cacheLimit, f_lengthLimit, f_hand, f_running, f_linkFrom, f_exitKind, f_controlDone, f_trapCode, f_trapDetail, a_mem, a_marks, a_visitCount, a_inQueue, a_outQueue, a_blockStart, a_blockCount, a_blockRecent, a_links, a_entry, a_cover, a_opKind, a_opMode, a_opArg) 27 := by
  refine nm_r (e' := 3) (by decide) ?_
  iterate 5 refine br_f (by decide) ?_
  refine br_t (by decide) ?_
  refine xs_overflowBit ?_
  refine xs_c78 ?_
  rw [fg_odd (by decide) (fg_vbB _ _ _ _ _)]; exact h
theorem xs_cd28 {post : Int32 → Prop} (h : post (if fg_nb f_flagBits f_znPending f_znResult = fg_vb f_flagBits f_cvKind f_cvLeft f_cvRight f_cvWide then 0 else 1)) : wpX_conditionHolds post (f_size, f_executedCount, f_regA, f_regX, f_regS, f_pc, f_flagBits, f_znPending, f_znResult, f_cvKind, f_cvLeft, f_cvRight, f_cvWide, f_inHead, f_inSize, f_outHead, f_outSize, f_lastCode, f_lastDetail, f_cacheLimit, f_lengthLimit, f_hand, f_running, f_linkFrom, f_exitKind, f_controlDone, f_trapCode, f_trapDetail, a_mem, a_marks, a_visitCount, a_inQueue, a_outQueue, a_blockStart, a_blockCount, a_blockRecent, a_links, a_entry, a_cover, a_opKind, a_opMode, a_opArg) 28 := by
  refine nm_r (e' := 4) (by decide) ?_
  refine br_f (by decide) ?_
  refine br_t (by decide) ?_
  refine xs_negativeBit ?_
  refine xs_overflowBit ?_
  refine nm_e ?_
  refine xs_c78 ?_
  rw [fg_xe (by decide) (fg_nbB _ _ _) (fg_vbB _ _ _ _ _)]; exact h
theorem xs_cd29 {post : Int32 → Prop} (h : post (if fg_nb f_flagBits f_znPending f_znResult = fg_vb f_flagBits f_cvKind f_cvLeft f_cvRight f_cvWide then 1 else 0)) : wpX_conditionHolds post (f_size, f_executedCount, f_regA, f_regX, f_regS, f_pc, f_flagBits, f_znPending, f_znResult, f_cvKind, f_cvLeft, f_cvRight, f_cvWide, f_inHead, f_inSize, f_outHead, f_outSize, f_lastCode, f_lastDetail, f_cacheLimit, f_lengthLimit, f_hand, f_running, f_linkFrom, f_exitKind, f_controlDone, f_trapCode, f_trapDetail, a_mem, a_marks, a_visitCount, a_inQueue, a_outQueue, a_blockStart, a_blockCount, a_blockRecent, a_links, a_entry, a_cover, a_opKind, a_opMode, a_opArg) 29 := by
  refine nm_r (e' := 4) (by decide) ?_
  refine br_f (by decide) ?_
  refine br_t (by decide) ?_
  refine xs_negativeBit ?_
  refine xs_overflowBit ?_
  refine nm_e ?_
  refine xs_c78 ?_
  rw [fg_xo (by decide) (fg_nbB _ _ _) (fg_vbB _ _ _ _ _)]; exact h
theorem xc_cond {post : SX → Prop} {k p1 p2 p3 b : Int32} (hcd : ∀ P : Int32 → Prop, P b → wpX_conditionHolds P (f_size, f_executedCount, f_regA, f_regX, f_regS, p1, f_flagBits, f_znPending, f_znResult, f_cvKind, f_cvLeft, f_cvRight, f_cvWide, f_inHead, f_inSize, f_outHead, f_outSize, f_lastCode, f_lastDetail, f_cacheLimit, f_lengthLimit, f_hand, f_running, f_linkFrom, 1, 1, f_trapCode, f_trapDetail, a_mem, a_marks, a_visitCount, a_inQueue, a_outQueue, a_blockStart, a_blockCount, a_blockRecent, a_links, a_entry, a_cover, a_opKind, a_opMode, a_opArg) k) (h16 : ¬ k < 16) (h19 : 19 < k) (h0 : b = 0 → post (f_size, f_executedCount, f_regA, f_regX, f_regS, p2 + 1, f_flagBits, f_znPending, f_znResult, f_cvKind, f_cvLeft, f_cvRight, f_cvWide, f_inHead, f_inSize, f_outHead, f_outSize, f_lastCode, f_lastDetail, f_cacheLimit, f_lengthLimit, f_hand, f_running, f_linkFrom, 0, 1, f_trapCode, f_trapDetail, a_mem, a_marks, a_visitCount, a_inQueue, a_outQueue, a_blockStart, a_blockCount, a_blockRecent, a_links, a_entry, a_cover, a_opKind, a_opMode, a_opArg)) (h1 : ¬ b = 0 → post (f_size, f_executedCount, f_regA, f_regX, f_regS, p1, f_flagBits, f_znPending, f_znResult, f_cvKind, f_cvLeft, f_cvRight, f_cvWide, f_inHead, f_inSize, f_outHead, f_outSize, f_lastCode, f_lastDetail, f_cacheLimit, f_lengthLimit, f_hand, f_running, f_linkFrom, 1, 1, f_trapCode, f_trapDetail, a_mem, a_marks, a_visitCount, a_inQueue, a_outQueue, a_blockStart, a_blockCount, a_blockRecent, a_links, a_entry, a_cover, a_opKind, a_opMode, a_opArg)) : wpX_control post (f_size, f_executedCount, f_regA, f_regX, f_regS, f_pc, f_flagBits, f_znPending, f_znResult, f_cvKind, f_cvLeft, f_cvRight, f_cvWide, f_inHead, f_inSize, f_outHead, f_outSize, f_lastCode, f_lastDetail, f_cacheLimit, f_lengthLimit, f_hand, f_running, f_linkFrom, f_exitKind, f_controlDone, f_trapCode, f_trapDetail, a_mem, a_marks, a_visitCount, a_inQueue, a_outQueue, a_blockStart, a_blockCount, a_blockRecent, a_links, a_entry, a_cover, a_opKind, a_opMode, a_opArg) k p1 p2 p3 := by
  refine br_f h16 ?_
  refine br_t h19 ?_
  refine hcd _ ?_
  exact br_c (fun e => nm_e (h0 e)) h1
theorem xc_16 {post : SX → Prop} {p1 p2 p3 : Int32} (h : post (f_size, f_executedCount, f_regA, f_regX, f_regS, p1, f_flagBits, f_znPending, f_znResult, f_cvKind, f_cvLeft, f_cvRight, f_cvWide, f_inHead, f_inSize, f_outHead, f_outSize, f_lastCode, f_lastDetail, f_cacheLimit, f_lengthLimit, f_hand, f_running, f_linkFrom, 1, 1, f_trapCode, f_trapDetail, a_mem, a_marks, a_visitCount, a_inQueue, a_outQueue, a_blockStart, a_blockCount, a_blockRecent, a_links, a_entry, a_cover, a_opKind, a_opMode, a_opArg)) : wpX_control post (f_size, f_executedCount, f_regA, f_regX, f_regS, f_pc, f_flagBits, f_znPending, f_znResult, f_cvKind, f_cvLeft, f_cvRight, f_cvWide, f_inHead, f_inSize, f_outHead, f_outSize, f_lastCode, f_lastDetail, f_cacheLimit, f_lengthLimit, f_hand, f_running, f_linkFrom, f_exitKind, f_controlDone, f_trapCode, f_trapDetail, a_mem, a_marks, a_visitCount, a_inQueue, a_outQueue, a_blockStart, a_blockCount, a_blockRecent, a_links, a_entry, a_cover, a_opKind, a_opMode, a_opArg) 16 p1 p2 p3 := by
  iterate 2 refine br_f (by decide) ?_
  exact br_t (by decide) h
theorem xc_17 {post : SX → Prop} {p1 p2 p3 : Int32} (h : post (f_size, f_executedCount, f_regA, f_regX, f_regS, (p1 + f_regX) &&& 65535, f_flagBits, f_znPending, f_znResult, f_cvKind, f_cvLeft, f_cvRight, f_cvWide, f_inHead, f_inSize, f_outHead, f_outSize, f_lastCode, f_lastDetail, f_cacheLimit, f_lengthLimit, f_hand, f_running, f_linkFrom, 2, 1, f_trapCode, f_trapDetail, a_mem, a_marks, a_visitCount, a_inQueue, a_outQueue, a_blockStart, a_blockCount, a_blockRecent, a_links, a_entry, a_cover, a_opKind, a_opMode, a_opArg)) : wpX_control post (f_size, f_executedCount, f_regA, f_regX, f_regS, f_pc, f_flagBits, f_znPending, f_znResult, f_cvKind, f_cvLeft, f_cvRight, f_cvWide, f_inHead, f_inSize, f_outHead, f_outSize, f_lastCode, f_lastDetail, f_cacheLimit, f_lengthLimit, f_hand, f_running, f_linkFrom, f_exitKind, f_controlDone, f_trapCode, f_trapDetail, a_mem, a_marks, a_visitCount, a_inQueue, a_outQueue, a_blockStart, a_blockCount, a_blockRecent, a_links, a_entry, a_cover, a_opKind, a_opMode, a_opArg) 17 p1 p2 p3 := by
  iterate 3 refine br_f (by decide) ?_
  exact br_t (by decide) (nm_e h)
theorem xc_19 {post : SX → Prop} {p1 p2 : Int32} {a : Nat} (ha : a < 256) (h : post (f_size, f_executedCount, f_regA, f_regX, (f_regS + 1) &&& 65535, a_mem a, f_flagBits, f_znPending, f_znResult, f_cvKind, f_cvLeft, f_cvRight, f_cvWide, f_inHead, f_inSize, f_outHead, f_outSize, f_lastCode, f_lastDetail, f_cacheLimit, f_lengthLimit, f_hand, f_running, f_linkFrom, 2, 1, f_trapCode, f_trapDetail, a_mem, a_marks, a_visitCount, a_inQueue, a_outQueue, a_blockStart, a_blockCount, a_blockRecent, a_links, a_entry, a_cover, a_opKind, a_opMode, a_opArg)) : wpX_control post (f_size, f_executedCount, f_regA, f_regX, f_regS, f_pc, f_flagBits, f_znPending, f_znResult, f_cvKind, f_cvLeft, f_cvRight, f_cvWide, f_inHead, f_inSize, f_outHead, f_outSize, f_lastCode, f_lastDetail, f_cacheLimit, f_lengthLimit, f_hand, f_running, f_linkFrom, f_exitKind, f_controlDone, f_trapCode, f_trapDetail, a_mem, a_marks, a_visitCount, a_inQueue, a_outQueue, a_blockStart, a_blockCount, a_blockRecent, a_links, a_entry, a_cover, a_opKind, a_opMode, a_opArg) 19 p1 p2 (nI a) := by
  iterate 5 refine br_f (by decide) ?_
  refine br_t (by decide) ?_
  refine And.intro (vp_in_nI ha (by decide)) ?_
  refine nm_r (e' := a_mem a) (by rw [nI_clamp (by omega)]) ?_
  exact nm_e h
theorem xk_T {post : Int32 → SX → Prop} {idx : Nat} {k m c d p1 : Int32} (hi : idx < 128) (hK : a_opKind idx = k) (hM : a_opMode idx = m) (hA : a_opArg idx = d) (h2 : ¬ k < 200) (hc : k - 200 = c) (h : post 0 (f_size, f_executedCount, f_regA, f_regX, f_regS, f_pc, f_flagBits, f_znPending, f_znResult, f_cvKind, f_cvLeft, f_cvRight, f_cvWide, f_inHead, f_inSize, f_outHead, f_outSize, f_lastCode, f_lastDetail, f_cacheLimit, f_lengthLimit, f_hand, f_running, f_linkFrom, f_exitKind, f_controlDone, c, d, a_mem, a_marks, a_visitCount, a_inQueue, a_outQueue, a_blockStart, a_blockCount, a_blockRecent, a_links, a_entry, a_cover, a_opKind, a_opMode, a_opArg)) : wpX_step post (f_size, f_executedCount, f_regA, f_regX, f_regS, f_pc, f_flagBits, f_znPending, f_znResult, f_cvKind, f_cvLeft, f_cvRight, f_cvWide, f_inHead, f_inSize, f_outHead, f_outSize, f_lastCode, f_lastDetail, f_cacheLimit, f_lengthLimit, f_hand, f_running, f_linkFrom, f_exitKind, f_controlDone, f_trapCode, f_trapDetail, a_mem, a_marks, a_visitCount, a_inQueue, a_outQueue, a_blockStart, a_blockCount, a_blockRecent, a_links, a_entry, a_cover, a_opKind, a_opMode, a_opArg) (nI idx) p1 := by
  subst hc
  have hin : vp_in (nI idx) 128 := vp_in_nI hi (by decide)
  have ec : (nI idx).toNatClampNeg = idx := nI_clamp (by omega)
  refine And.intro hin (nm_r (e' := k) (by rw [ec]; exact hK) ?_)
  refine And.intro hin (nm_r (e' := m) (by rw [ec]; exact hM) ?_)
  refine And.intro hin (nm_r (e' := d) (by rw [ec]; exact hA) ?_)
  refine br_f h2 ?_
  refine xs_trap ?_
  exact ⟨rfl, h⟩
theorem xk_A2 {k e : Int32} {post : Int32 → SX → Prop} {idx : Nat} {d p1 : Int32} (hi : idx < 128) (hK : a_opKind idx = k) (hM : a_opMode idx = 2) (hA : a_opArg idx = d) (h2 : k < 200) (he : (d + f_regX) &&& 65535 = e) (hs : ¬ e < f_size) (h : post 0 (f_size, f_executedCount, f_regA, f_regX, f_regS, f_pc, f_flagBits, f_znPending, f_znResult, f_cvKind, f_cvLeft, f_cvRight, f_cvWide, f_inHead, f_inSize, f_outHead, f_outSize, f_lastCode, f_lastDetail, f_cacheLimit, f_lengthLimit, f_hand, f_running, f_linkFrom, f_exitKind, f_controlDone, 9, e, a_mem, a_marks, a_visitCount, a_inQueue, a_outQueue, a_blockStart, a_blockCount, a_blockRecent, a_links, a_entry, a_cover, a_opKind, a_opMode, a_opArg)) : wpX_step post (f_size, f_executedCount, f_regA, f_regX, f_regS, f_pc, f_flagBits, f_znPending, f_znResult, f_cvKind, f_cvLeft, f_cvRight, f_cvWide, f_inHead, f_inSize, f_outHead, f_outSize, f_lastCode, f_lastDetail, f_cacheLimit, f_lengthLimit, f_hand, f_running, f_linkFrom, f_exitKind, f_controlDone, f_trapCode, f_trapDetail, a_mem, a_marks, a_visitCount, a_inQueue, a_outQueue, a_blockStart, a_blockCount, a_blockRecent, a_links, a_entry, a_cover, a_opKind, a_opMode, a_opArg) (nI idx) p1 := by
  have hin : vp_in (nI idx) 128 := vp_in_nI hi (by decide)
  have ec : (nI idx).toNatClampNeg = idx := nI_clamp (by omega)
  refine And.intro hin (nm_r (e' := k) (by rw [ec]; exact hK) ?_)
  refine And.intro hin (nm_r (e' := 2) (by rw [ec]; exact hM) ?_)
  refine And.intro hin (nm_r (e' := d) (by rw [ec]; exact hA) ?_)
  refine br_t h2 ?_
  refine xs_ea2 he ?_
  refine br_f hs ?_
  refine xs_trap ?_
  exact ⟨rfl, h⟩
theorem xk_A4 {k e : Int32} {post : Int32 → SX → Prop} {idx : Nat} {d p1 : Int32} (hi : idx < 128) (hK : a_opKind idx = k) (hM : a_opMode idx = 4) (hA : a_opArg idx = d) (h2 : k < 200) (he : (f_regS - 1) &&& 65535 = e) (hs : ¬ e < f_size) (h : post 0 (f_size, f_executedCount, f_regA, f_regX, f_regS, f_pc, f_flagBits, f_znPending, f_znResult, f_cvKind, f_cvLeft, f_cvRight, f_cvWide, f_inHead, f_inSize, f_outHead, f_outSize, f_lastCode, f_lastDetail, f_cacheLimit, f_lengthLimit, f_hand, f_running, f_linkFrom, f_exitKind, f_controlDone, 9, e, a_mem, a_marks, a_visitCount, a_inQueue, a_outQueue, a_blockStart, a_blockCount, a_blockRecent, a_links, a_entry, a_cover, a_opKind, a_opMode, a_opArg)) : wpX_step post (f_size, f_executedCount, f_regA, f_regX, f_regS, f_pc, f_flagBits, f_znPending, f_znResult, f_cvKind, f_cvLeft, f_cvRight, f_cvWide, f_inHead, f_inSize, f_outHead, f_outSize, f_lastCode, f_lastDetail, f_cacheLimit, f_lengthLimit, f_hand, f_running, f_linkFrom, f_exitKind, f_controlDone, f_trapCode, f_trapDetail, a_mem, a_marks, a_visitCount, a_inQueue, a_outQueue, a_blockStart, a_blockCount, a_blockRecent, a_links, a_entry, a_cover, a_opKind, a_opMode, a_opArg) (nI idx) p1 := by
  have hin : vp_in (nI idx) 128 := vp_in_nI hi (by decide)
  have ec : (nI idx).toNatClampNeg = idx := nI_clamp (by omega)
  refine And.intro hin (nm_r (e' := k) (by rw [ec]; exact hK) ?_)
  refine And.intro hin (nm_r (e' := 4) (by rw [ec]; exact hM) ?_)
  refine And.intro hin (nm_r (e' := d) (by rw [ec]; exact hA) ?_)
  refine br_t h2 ?_
  refine xs_ea4 he ?_
  refine br_f hs ?_
  refine xs_trap ?_
  exact ⟨rfl, h⟩
theorem xk_A5 {k e : Int32} {post : Int32 → SX → Prop} {idx : Nat} {d p1 : Int32} (hi : idx < 128) (hK : a_opKind idx = k) (hM : a_opMode idx = 5) (hA : a_opArg idx = d) (h2 : k < 200) (he : f_regS = e) (hs : ¬ e < f_size) (h : post 0 (f_size, f_executedCount, f_regA, f_regX, f_regS, f_pc, f_flagBits, f_znPending, f_znResult, f_cvKind, f_cvLeft, f_cvRight, f_cvWide, f_inHead, f_inSize, f_outHead, f_outSize, f_lastCode, f_lastDetail, f_cacheLimit, f_lengthLimit, f_hand, f_running, f_linkFrom, f_exitKind, f_controlDone, 9, e, a_mem, a_marks, a_visitCount, a_inQueue, a_outQueue, a_blockStart, a_blockCount, a_blockRecent, a_links, a_entry, a_cover, a_opKind, a_opMode, a_opArg)) : wpX_step post (f_size, f_executedCount, f_regA, f_regX, f_regS, f_pc, f_flagBits, f_znPending, f_znResult, f_cvKind, f_cvLeft, f_cvRight, f_cvWide, f_inHead, f_inSize, f_outHead, f_outSize, f_lastCode, f_lastDetail, f_cacheLimit, f_lengthLimit, f_hand, f_running, f_linkFrom, f_exitKind, f_controlDone, f_trapCode, f_trapDetail, a_mem, a_marks, a_visitCount, a_inQueue, a_outQueue, a_blockStart, a_blockCount, a_blockRecent, a_links, a_entry, a_cover, a_opKind, a_opMode, a_opArg) (nI idx) p1 := by
  have hin : vp_in (nI idx) 128 := vp_in_nI hi (by decide)
  have ec : (nI idx).toNatClampNeg = idx := nI_clamp (by omega)
  refine And.intro hin (nm_r (e' := k) (by rw [ec]; exact hK) ?_)
  refine And.intro hin (nm_r (e' := 5) (by rw [ec]; exact hM) ?_)
  refine And.intro hin (nm_r (e' := d) (by rw [ec]; exact hA) ?_)
  refine br_t h2 ?_
  refine xs_ea5 he ?_
  refine br_f hs ?_
  refine xs_trap ?_
  exact ⟨rfl, h⟩
theorem xk_1 {post : Int32 → SX → Prop} {idx : Nat} {d p1 : Int32} (hi : idx < 128) (hK : a_opKind idx = 1) (hM : a_opMode idx = 0) (hA : a_opArg idx = d) (hz : 0 < f_size)  (h : post 1 (f_size, f_executedCount, f_regA, f_regX, f_regS, f_pc, f_flagBits, f_znPending, f_znResult, f_cvKind, f_cvLeft, f_cvRight, f_cvWide, f_inHead, f_inSize, f_outHead, f_outSize, f_lastCode, f_lastDetail, f_cacheLimit, f_lengthLimit, f_hand, f_running, f_linkFrom, f_exitKind, f_controlDone, f_trapCode, f_trapDetail, a_mem, a_marks, a_visitCount, a_inQueue, a_outQueue, a_blockStart, a_blockCount, a_blockRecent, a_links, a_entry, a_cover, a_opKind, a_opMode, a_opArg)) : wpX_step post (f_size, f_executedCount, f_regA, f_regX, f_regS, f_pc, f_flagBits, f_znPending, f_znResult, f_cvKind, f_cvLeft, f_cvRight, f_cvWide, f_inHead, f_inSize, f_outHead, f_outSize, f_lastCode, f_lastDetail, f_cacheLimit, f_lengthLimit, f_hand, f_running, f_linkFrom, f_exitKind, f_controlDone, f_trapCode, f_trapDetail, a_mem, a_marks, a_visitCount, a_inQueue, a_outQueue, a_blockStart, a_blockCount, a_blockRecent, a_links, a_entry, a_cover, a_opKind, a_opMode, a_opArg) (nI idx) p1 := by
  have hin : vp_in (nI idx) 128 := vp_in_nI hi (by decide)
  have ec : (nI idx).toNatClampNeg = idx := nI_clamp (by omega)
  refine And.intro hin (nm_r (e' := 1) (by rw [ec]; exact hK) ?_)
  refine And.intro hin (nm_r (e' := 0) (by rw [ec]; exact hM) ?_)
  refine And.intro hin (nm_r (e' := d) (by rw [ec]; exact hA) ?_)
  refine br_t (by decide) ?_
  refine xs_ea0 ?_
  refine br_t hz ?_
  iterate 3 refine br_t (by decide) ?_
  refine xp_1 ?_
  exact ⟨rfl, h⟩
theorem xk_2 {post : Int32 → SX → Prop} {idx : Nat} {d p1 : Int32} (hi : idx < 128) (hK : a_opKind idx = 2) (hM : a_opMode idx = 0) (hA : a_opArg idx = d) (hz : 0 < f_size)  (h : post 1 (f_size, f_executedCount, f_regA, f_regA, f_regS, f_pc, f_flagBits, f_znPending, f_znResult, f_cvKind, f_cvLeft, f_cvRight, f_cvWide, f_inHead, f_inSize, f_outHead, f_outSize, f_lastCode, f_lastDetail, f_cacheLimit, f_lengthLimit, f_hand, f_running, f_linkFrom, f_exitKind, f_controlDone, f_trapCode, f_trapDetail, a_mem, a_marks, a_visitCount, a_inQueue, a_outQueue, a_blockStart, a_blockCount, a_blockRecent, a_links, a_entry, a_cover, a_opKind, a_opMode, a_opArg)) : wpX_step post (f_size, f_executedCount, f_regA, f_regX, f_regS, f_pc, f_flagBits, f_znPending, f_znResult, f_cvKind, f_cvLeft, f_cvRight, f_cvWide, f_inHead, f_inSize, f_outHead, f_outSize, f_lastCode, f_lastDetail, f_cacheLimit, f_lengthLimit, f_hand, f_running, f_linkFrom, f_exitKind, f_controlDone, f_trapCode, f_trapDetail, a_mem, a_marks, a_visitCount, a_inQueue, a_outQueue, a_blockStart, a_blockCount, a_blockRecent, a_links, a_entry, a_cover, a_opKind, a_opMode, a_opArg) (nI idx) p1 := by
  have hin : vp_in (nI idx) 128 := vp_in_nI hi (by decide)
  have ec : (nI idx).toNatClampNeg = idx := nI_clamp (by omega)
  refine And.intro hin (nm_r (e' := 2) (by rw [ec]; exact hK) ?_)
  refine And.intro hin (nm_r (e' := 0) (by rw [ec]; exact hM) ?_)
  refine And.intro hin (nm_r (e' := d) (by rw [ec]; exact hA) ?_)
  refine br_t (by decide) ?_
  refine xs_ea0 ?_
  refine br_t hz ?_
  iterate 3 refine br_t (by decide) ?_
  refine xp_2 ?_
  exact ⟨rfl, h⟩
theorem xk_3 {post : Int32 → SX → Prop} {idx : Nat} {d p1 : Int32} (hi : idx < 128) (hK : a_opKind idx = 3) (hM : a_opMode idx = 0) (hA : a_opArg idx = d) (hz : 0 < f_size)  (h : post 1 (f_size, f_executedCount, f_regA, f_regX, f_regX, f_pc, f_flagBits, f_znPending, f_znResult, f_cvKind, f_cvLeft, f_cvRight, f_cvWide, f_inHead, f_inSize, f_outHead, f_outSize, f_lastCode, f_lastDetail, f_cacheLimit, f_lengthLimit, f_hand, f_running, f_linkFrom, f_exitKind, f_controlDone, f_trapCode, f_trapDetail, a_mem, a_marks, a_visitCount, a_inQueue, a_outQueue, a_blockStart, a_blockCount, a_blockRecent, a_links, a_entry, a_cover, a_opKind, a_opMode, a_opArg)) : wpX_step post (f_size, f_executedCount, f_regA, f_regX, f_regS, f_pc, f_flagBits, f_znPending, f_znResult, f_cvKind, f_cvLeft, f_cvRight, f_cvWide, f_inHead, f_inSize, f_outHead, f_outSize, f_lastCode, f_lastDetail, f_cacheLimit, f_lengthLimit, f_hand, f_running, f_linkFrom, f_exitKind, f_controlDone, f_trapCode, f_trapDetail, a_mem, a_marks, a_visitCount, a_inQueue, a_outQueue, a_blockStart, a_blockCount, a_blockRecent, a_links, a_entry, a_cover, a_opKind, a_opMode, a_opArg) (nI idx) p1 := by
  have hin : vp_in (nI idx) 128 := vp_in_nI hi (by decide)
  have ec : (nI idx).toNatClampNeg = idx := nI_clamp (by omega)
  refine And.intro hin (nm_r (e' := 3) (by rw [ec]; exact hK) ?_)
  refine And.intro hin (nm_r (e' := 0) (by rw [ec]; exact hM) ?_)
  refine And.intro hin (nm_r (e' := d) (by rw [ec]; exact hA) ?_)
  refine br_t (by decide) ?_
  refine xs_ea0 ?_
  refine br_t hz ?_
  iterate 3 refine br_t (by decide) ?_
  refine xp_3 ?_
  exact ⟨rfl, h⟩
theorem xk_4 {post : Int32 → SX → Prop} {idx : Nat} {d p1 : Int32} (hi : idx < 128) (hK : a_opKind idx = 4) (hM : a_opMode idx = 0) (hA : a_opArg idx = d) (hz : 0 < f_size)  (h : post 1 (f_size, f_executedCount, f_regA, f_regS, f_regS, f_pc, f_flagBits, f_znPending, f_znResult, f_cvKind, f_cvLeft, f_cvRight, f_cvWide, f_inHead, f_inSize, f_outHead, f_outSize, f_lastCode, f_lastDetail, f_cacheLimit, f_lengthLimit, f_hand, f_running, f_linkFrom, f_exitKind, f_controlDone, f_trapCode, f_trapDetail, a_mem, a_marks, a_visitCount, a_inQueue, a_outQueue, a_blockStart, a_blockCount, a_blockRecent, a_links, a_entry, a_cover, a_opKind, a_opMode, a_opArg)) : wpX_step post (f_size, f_executedCount, f_regA, f_regX, f_regS, f_pc, f_flagBits, f_znPending, f_znResult, f_cvKind, f_cvLeft, f_cvRight, f_cvWide, f_inHead, f_inSize, f_outHead, f_outSize, f_lastCode, f_lastDetail, f_cacheLimit, f_lengthLimit, f_hand, f_running, f_linkFrom, f_exitKind, f_controlDone, f_trapCode, f_trapDetail, a_mem, a_marks, a_visitCount, a_inQueue, a_outQueue, a_blockStart, a_blockCount, a_blockRecent, a_links, a_entry, a_cover, a_opKind, a_opMode, a_opArg) (nI idx) p1 := by
  have hin : vp_in (nI idx) 128 := vp_in_nI hi (by decide)
  have ec : (nI idx).toNatClampNeg = idx := nI_clamp (by omega)
  refine And.intro hin (nm_r (e' := 4) (by rw [ec]; exact hK) ?_)
  refine And.intro hin (nm_r (e' := 0) (by rw [ec]; exact hM) ?_)
  refine And.intro hin (nm_r (e' := d) (by rw [ec]; exact hA) ?_)
  refine br_t (by decide) ?_
  refine xs_ea0 ?_
  refine br_t hz ?_
  iterate 3 refine br_t (by decide) ?_
  refine xp_4 ?_
  exact ⟨rfl, h⟩
theorem xk_5 {post : Int32 → SX → Prop} {idx : Nat} {d p1 : Int32} (hi : idx < 128) (hK : a_opKind idx = 5) (hM : a_opMode idx = 0) (hA : a_opArg idx = d) (hz : 0 < f_size)  (h : post 1 (f_size, f_executedCount, f_regA, (f_regX + 1) &&& 65535, f_regS, f_pc, f_flagBits, 1, (f_regX + 1) &&& 65535, f_cvKind, f_cvLeft, f_cvRight, f_cvWide, f_inHead, f_inSize, f_outHead, f_outSize, f_lastCode, f_lastDetail, f_cacheLimit, f_lengthLimit, f_hand, f_running, f_linkFrom, f_exitKind, f_controlDone, f_trapCode, f_trapDetail, a_mem, a_marks, a_visitCount, a_inQueue, a_outQueue, a_blockStart, a_blockCount, a_blockRecent, a_links, a_entry, a_cover, a_opKind, a_opMode, a_opArg)) : wpX_step post (f_size, f_executedCount, f_regA, f_regX, f_regS, f_pc, f_flagBits, f_znPending, f_znResult, f_cvKind, f_cvLeft, f_cvRight, f_cvWide, f_inHead, f_inSize, f_outHead, f_outSize, f_lastCode, f_lastDetail, f_cacheLimit, f_lengthLimit, f_hand, f_running, f_linkFrom, f_exitKind, f_controlDone, f_trapCode, f_trapDetail, a_mem, a_marks, a_visitCount, a_inQueue, a_outQueue, a_blockStart, a_blockCount, a_blockRecent, a_links, a_entry, a_cover, a_opKind, a_opMode, a_opArg) (nI idx) p1 := by
  have hin : vp_in (nI idx) 128 := vp_in_nI hi (by decide)
  have ec : (nI idx).toNatClampNeg = idx := nI_clamp (by omega)
  refine And.intro hin (nm_r (e' := 5) (by rw [ec]; exact hK) ?_)
  refine And.intro hin (nm_r (e' := 0) (by rw [ec]; exact hM) ?_)
  refine And.intro hin (nm_r (e' := d) (by rw [ec]; exact hA) ?_)
  refine br_t (by decide) ?_
  refine xs_ea0 ?_
  refine br_t hz ?_
  iterate 3 refine br_t (by decide) ?_
  refine xp_5 ?_
  exact ⟨rfl, h⟩
theorem xk_6 {post : Int32 → SX → Prop} {idx : Nat} {d p1 : Int32} (hi : idx < 128) (hK : a_opKind idx = 6) (hM : a_opMode idx = 0) (hA : a_opArg idx = d) (hz : 0 < f_size)  (h : post 1 (f_size, f_executedCount, f_regA, (f_regX - 1) &&& 65535, f_regS, f_pc, f_flagBits, 1, (f_regX - 1) &&& 65535, f_cvKind, f_cvLeft, f_cvRight, f_cvWide, f_inHead, f_inSize, f_outHead, f_outSize, f_lastCode, f_lastDetail, f_cacheLimit, f_lengthLimit, f_hand, f_running, f_linkFrom, f_exitKind, f_controlDone, f_trapCode, f_trapDetail, a_mem, a_marks, a_visitCount, a_inQueue, a_outQueue, a_blockStart, a_blockCount, a_blockRecent, a_links, a_entry, a_cover, a_opKind, a_opMode, a_opArg)) : wpX_step post (f_size, f_executedCount, f_regA, f_regX, f_regS, f_pc, f_flagBits, f_znPending, f_znResult, f_cvKind, f_cvLeft, f_cvRight, f_cvWide, f_inHead, f_inSize, f_outHead, f_outSize, f_lastCode, f_lastDetail, f_cacheLimit, f_lengthLimit, f_hand, f_running, f_linkFrom, f_exitKind, f_controlDone, f_trapCode, f_trapDetail, a_mem, a_marks, a_visitCount, a_inQueue, a_outQueue, a_blockStart, a_blockCount, a_blockRecent, a_links, a_entry, a_cover, a_opKind, a_opMode, a_opArg) (nI idx) p1 := by
  have hin : vp_in (nI idx) 128 := vp_in_nI hi (by decide)
  have ec : (nI idx).toNatClampNeg = idx := nI_clamp (by omega)
  refine And.intro hin (nm_r (e' := 6) (by rw [ec]; exact hK) ?_)
  refine And.intro hin (nm_r (e' := 0) (by rw [ec]; exact hM) ?_)
  refine And.intro hin (nm_r (e' := d) (by rw [ec]; exact hA) ?_)
  refine br_t (by decide) ?_
  refine xs_ea0 ?_
  refine br_t hz ?_
  iterate 3 refine br_t (by decide) ?_
  refine xp_6 ?_
  exact ⟨rfl, h⟩
theorem xk_7 {post : Int32 → SX → Prop} {idx : Nat} {d p1 : Int32} (hi : idx < 128) (hK : a_opKind idx = 7) (hM : a_opMode idx = 0) (hA : a_opArg idx = d) (hz : 0 < f_size)  (h : post 1 (f_size, f_executedCount, (f_regA <<< ((1 : Int32) &&& 31)) &&& 65535, f_regX, f_regS, f_pc, fg_sc f_flagBits ((f_regA >>> ((15 : Int32) &&& 31)) &&& 1) (fg_vb f_flagBits f_cvKind f_cvLeft f_cvRight f_cvWide), 1, (f_regA <<< ((1 : Int32) &&& 31)) &&& 65535, 0, f_cvLeft, f_cvRight, f_cvWide, f_inHead, f_inSize, f_outHead, f_outSize, f_lastCode, f_lastDetail, f_cacheLimit, f_lengthLimit, f_hand, f_running, f_linkFrom, f_exitKind, f_controlDone, f_trapCode, f_trapDetail, a_mem, a_marks, a_visitCount, a_inQueue, a_outQueue, a_blockStart, a_blockCount, a_blockRecent, a_links, a_entry, a_cover, a_opKind, a_opMode, a_opArg)) : wpX_step post (f_size, f_executedCount, f_regA, f_regX, f_regS, f_pc, f_flagBits, f_znPending, f_znResult, f_cvKind, f_cvLeft, f_cvRight, f_cvWide, f_inHead, f_inSize, f_outHead, f_outSize, f_lastCode, f_lastDetail, f_cacheLimit, f_lengthLimit, f_hand, f_running, f_linkFrom, f_exitKind, f_controlDone, f_trapCode, f_trapDetail, a_mem, a_marks, a_visitCount, a_inQueue, a_outQueue, a_blockStart, a_blockCount, a_blockRecent, a_links, a_entry, a_cover, a_opKind, a_opMode, a_opArg) (nI idx) p1 := by
  have hin : vp_in (nI idx) 128 := vp_in_nI hi (by decide)
  have ec : (nI idx).toNatClampNeg = idx := nI_clamp (by omega)
  refine And.intro hin (nm_r (e' := 7) (by rw [ec]; exact hK) ?_)
  refine And.intro hin (nm_r (e' := 0) (by rw [ec]; exact hM) ?_)
  refine And.intro hin (nm_r (e' := d) (by rw [ec]; exact hA) ?_)
  refine br_t (by decide) ?_
  refine xs_ea0 ?_
  refine br_t hz ?_
  iterate 3 refine br_t (by decide) ?_
  refine xp_7 ?_
  exact ⟨rfl, h⟩
theorem xk_8 {post : Int32 → SX → Prop} {idx : Nat} {d p1 : Int32} (hi : idx < 128) (hK : a_opKind idx = 8) (hM : a_opMode idx = 0) (hA : a_opArg idx = d) (hz : 0 < f_size)  (h : post 1 (f_size, f_executedCount, f_regA >>> ((1 : Int32) &&& 31), f_regX, f_regS, f_pc, fg_sc f_flagBits (f_regA &&& 1) (fg_vb f_flagBits f_cvKind f_cvLeft f_cvRight f_cvWide), 1, f_regA >>> ((1 : Int32) &&& 31), 0, f_cvLeft, f_cvRight, f_cvWide, f_inHead, f_inSize, f_outHead, f_outSize, f_lastCode, f_lastDetail, f_cacheLimit, f_lengthLimit, f_hand, f_running, f_linkFrom, f_exitKind, f_controlDone, f_trapCode, f_trapDetail, a_mem, a_marks, a_visitCount, a_inQueue, a_outQueue, a_blockStart, a_blockCount, a_blockRecent, a_links, a_entry, a_cover, a_opKind, a_opMode, a_opArg)) : wpX_step post (f_size, f_executedCount, f_regA, f_regX, f_regS, f_pc, f_flagBits, f_znPending, f_znResult, f_cvKind, f_cvLeft, f_cvRight, f_cvWide, f_inHead, f_inSize, f_outHead, f_outSize, f_lastCode, f_lastDetail, f_cacheLimit, f_lengthLimit, f_hand, f_running, f_linkFrom, f_exitKind, f_controlDone, f_trapCode, f_trapDetail, a_mem, a_marks, a_visitCount, a_inQueue, a_outQueue, a_blockStart, a_blockCount, a_blockRecent, a_links, a_entry, a_cover, a_opKind, a_opMode, a_opArg) (nI idx) p1 := by
  have hin : vp_in (nI idx) 128 := vp_in_nI hi (by decide)
  have ec : (nI idx).toNatClampNeg = idx := nI_clamp (by omega)
  refine And.intro hin (nm_r (e' := 8) (by rw [ec]; exact hK) ?_)
  refine And.intro hin (nm_r (e' := 0) (by rw [ec]; exact hM) ?_)
  refine And.intro hin (nm_r (e' := d) (by rw [ec]; exact hA) ?_)
  refine br_t (by decide) ?_
  refine xs_ea0 ?_
  refine br_t hz ?_
  iterate 3 refine br_t (by decide) ?_
  refine xp_8 ?_
  exact ⟨rfl, h⟩
theorem xk_9T {post : Int32 → SX → Prop} {idx : Nat} {d p1 : Int32} (hi : idx < 128) (hK : a_opKind idx = 9) (hM : a_opMode idx = 0) (hA : a_opArg idx = d) (hz : 0 < f_size) (hc : f_inSize = 0) (h : post 0 (f_size, f_executedCount, f_regA, f_regX, f_regS, f_pc, f_flagBits, f_znPending, f_znResult, f_cvKind, f_cvLeft, f_cvRight, f_cvWide, f_inHead, f_inSize, f_outHead, f_outSize, f_lastCode, f_lastDetail, f_cacheLimit, f_lengthLimit, f_hand, f_running, f_linkFrom, f_exitKind, f_controlDone, 5, 0, a_mem, a_marks, a_visitCount, a_inQueue, a_outQueue, a_blockStart, a_blockCount, a_blockRecent, a_links, a_entry, a_cover, a_opKind, a_opMode, a_opArg)) : wpX_step post (f_size, f_executedCount, f_regA, f_regX, f_regS, f_pc, f_flagBits, f_znPending, f_znResult, f_cvKind, f_cvLeft, f_cvRight, f_cvWide, f_inHead, f_inSize, f_outHead, f_outSize, f_lastCode, f_lastDetail, f_cacheLimit, f_lengthLimit, f_hand, f_running, f_linkFrom, f_exitKind, f_controlDone, f_trapCode, f_trapDetail, a_mem, a_marks, a_visitCount, a_inQueue, a_outQueue, a_blockStart, a_blockCount, a_blockRecent, a_links, a_entry, a_cover, a_opKind, a_opMode, a_opArg) (nI idx) p1 := by
  have hin : vp_in (nI idx) 128 := vp_in_nI hi (by decide)
  have ec : (nI idx).toNatClampNeg = idx := nI_clamp (by omega)
  refine And.intro hin (nm_r (e' := 9) (by rw [ec]; exact hK) ?_)
  refine And.intro hin (nm_r (e' := 0) (by rw [ec]; exact hM) ?_)
  refine And.intro hin (nm_r (e' := d) (by rw [ec]; exact hA) ?_)
  refine br_t (by decide) ?_
  refine xs_ea0 ?_
  refine br_t hz ?_
  iterate 3 refine br_t (by decide) ?_
  refine xp_9T hc ?_
  exact ⟨rfl, h⟩
theorem xk_9 {post : Int32 → SX → Prop} {idx : Nat} {d p1 : Int32} (hi : idx < 128) (hK : a_opKind idx = 9) (hM : a_opMode idx = 0) (hA : a_opArg idx = d) (hz : 0 < f_size) {hd c : Nat} (hh : hd < 16) (h0 : 0 < c) (hc : c ≤ 16) (h : post 1 (f_size, f_executedCount, a_inQueue hd, f_regX, f_regS, f_pc, f_flagBits, 1, a_inQueue hd, f_cvKind, f_cvLeft, f_cvRight, f_cvWide, nI ((hd + 1) % 16), nI (c - 1), f_outHead, f_outSize, f_lastCode, f_lastDetail, f_cacheLimit, f_lengthLimit, f_hand, f_running, f_linkFrom, f_exitKind, f_controlDone, f_trapCode, f_trapDetail, a_mem, a_marks, a_visitCount, a_inQueue, a_outQueue, a_blockStart, a_blockCount, a_blockRecent, a_links, a_entry, a_cover, a_opKind, a_opMode, a_opArg)) : wpX_step post (f_size, f_executedCount, f_regA, f_regX, f_regS, f_pc, f_flagBits, f_znPending, f_znResult, f_cvKind, f_cvLeft, f_cvRight, f_cvWide, nI hd, nI c, f_outHead, f_outSize, f_lastCode, f_lastDetail, f_cacheLimit, f_lengthLimit, f_hand, f_running, f_linkFrom, f_exitKind, f_controlDone, f_trapCode, f_trapDetail, a_mem, a_marks, a_visitCount, a_inQueue, a_outQueue, a_blockStart, a_blockCount, a_blockRecent, a_links, a_entry, a_cover, a_opKind, a_opMode, a_opArg) (nI idx) p1 := by
  have hin : vp_in (nI idx) 128 := vp_in_nI hi (by decide)
  have ec : (nI idx).toNatClampNeg = idx := nI_clamp (by omega)
  refine And.intro hin (nm_r (e' := 9) (by rw [ec]; exact hK) ?_)
  refine And.intro hin (nm_r (e' := 0) (by rw [ec]; exact hM) ?_)
  refine And.intro hin (nm_r (e' := d) (by rw [ec]; exact hA) ?_)
  refine br_t (by decide) ?_
  refine xs_ea0 ?_
  refine br_t hz ?_
  iterate 3 refine br_t (by decide) ?_
  refine xp_9 hh h0 hc ?_
  exact ⟨rfl, h⟩
theorem xk_10T {post : Int32 → SX → Prop} {idx : Nat} {d p1 : Int32} (hi : idx < 128) (hK : a_opKind idx = 10) (hM : a_opMode idx = 0) (hA : a_opArg idx = d) (hz : 0 < f_size) (hc : ¬ f_outSize < 16) (h : post 0 (f_size, f_executedCount, f_regA, f_regX, f_regS, f_pc, f_flagBits, f_znPending, f_znResult, f_cvKind, f_cvLeft, f_cvRight, f_cvWide, f_inHead, f_inSize, f_outHead, f_outSize, f_lastCode, f_lastDetail, f_cacheLimit, f_lengthLimit, f_hand, f_running, f_linkFrom, f_exitKind, f_controlDone, 6, 0, a_mem, a_marks, a_visitCount, a_inQueue, a_outQueue, a_blockStart, a_blockCount, a_blockRecent, a_links, a_entry, a_cover, a_opKind, a_opMode, a_opArg)) : wpX_step post (f_size, f_executedCount, f_regA, f_regX, f_regS, f_pc, f_flagBits, f_znPending, f_znResult, f_cvKind, f_cvLeft, f_cvRight, f_cvWide, f_inHead, f_inSize, f_outHead, f_outSize, f_lastCode, f_lastDetail, f_cacheLimit, f_lengthLimit, f_hand, f_running, f_linkFrom, f_exitKind, f_controlDone, f_trapCode, f_trapDetail, a_mem, a_marks, a_visitCount, a_inQueue, a_outQueue, a_blockStart, a_blockCount, a_blockRecent, a_links, a_entry, a_cover, a_opKind, a_opMode, a_opArg) (nI idx) p1 := by
  have hin : vp_in (nI idx) 128 := vp_in_nI hi (by decide)
  have ec : (nI idx).toNatClampNeg = idx := nI_clamp (by omega)
  refine And.intro hin (nm_r (e' := 10) (by rw [ec]; exact hK) ?_)
  refine And.intro hin (nm_r (e' := 0) (by rw [ec]; exact hM) ?_)
  refine And.intro hin (nm_r (e' := d) (by rw [ec]; exact hA) ?_)
  refine br_t (by decide) ?_
  refine xs_ea0 ?_
  refine br_t hz ?_
  iterate 3 refine br_t (by decide) ?_
  refine xp_10T hc ?_
  exact ⟨rfl, h⟩
theorem xk_10 {post : Int32 → SX → Prop} {idx : Nat} {d p1 : Int32} (hi : idx < 128) (hK : a_opKind idx = 10) (hM : a_opMode idx = 0) (hA : a_opArg idx = d) (hz : 0 < f_size) {hd c : Nat} (hh : hd < 16) (hc : c < 16) (h : post 1 (f_size, f_executedCount, f_regA, f_regX, f_regS, f_pc, f_flagBits, f_znPending, f_znResult, f_cvKind, f_cvLeft, f_cvRight, f_cvWide, f_inHead, f_inSize, nI hd, nI (c + 1), f_lastCode, f_lastDetail, f_cacheLimit, f_lengthLimit, f_hand, f_running, f_linkFrom, f_exitKind, f_controlDone, f_trapCode, f_trapDetail, a_mem, a_marks, a_visitCount, a_inQueue, upd a_outQueue ((hd + c) % 16) f_regA, a_blockStart, a_blockCount, a_blockRecent, a_links, a_entry, a_cover, a_opKind, a_opMode, a_opArg)) : wpX_step post (f_size, f_executedCount, f_regA, f_regX, f_regS, f_pc, f_flagBits, f_znPending, f_znResult, f_cvKind, f_cvLeft, f_cvRight, f_cvWide, f_inHead, f_inSize, nI hd, nI c, f_lastCode, f_lastDetail, f_cacheLimit, f_lengthLimit, f_hand, f_running, f_linkFrom, f_exitKind, f_controlDone, f_trapCode, f_trapDetail, a_mem, a_marks, a_visitCount, a_inQueue, a_outQueue, a_blockStart, a_blockCount, a_blockRecent, a_links, a_entry, a_cover, a_opKind, a_opMode, a_opArg) (nI idx) p1 := by
  have hin : vp_in (nI idx) 128 := vp_in_nI hi (by decide)
  have ec : (nI idx).toNatClampNeg = idx := nI_clamp (by omega)
  refine And.intro hin (nm_r (e' := 10) (by rw [ec]; exact hK) ?_)
  refine And.intro hin (nm_r (e' := 0) (by rw [ec]; exact hM) ?_)
  refine And.intro hin (nm_r (e' := d) (by rw [ec]; exact hA) ?_)
  refine br_t (by decide) ?_
  refine xs_ea0 ?_
  refine br_t hz ?_
  iterate 3 refine br_t (by decide) ?_
  refine xp_10 hh hc ?_
  exact ⟨rfl, h⟩
theorem xk_16 {post : Int32 → SX → Prop} {idx : Nat} {d p1 : Int32} (hi : idx < 128) (hK : a_opKind idx = 16) (hM : a_opMode idx = 0) (hA : a_opArg idx = d) (hz : 0 < f_size) (h : post 1 (f_size, f_executedCount, f_regA, f_regX, f_regS, d, f_flagBits, f_znPending, f_znResult, f_cvKind, f_cvLeft, f_cvRight, f_cvWide, f_inHead, f_inSize, f_outHead, f_outSize, f_lastCode, f_lastDetail, f_cacheLimit, f_lengthLimit, f_hand, f_running, f_linkFrom, 1, 1, f_trapCode, f_trapDetail, a_mem, a_marks, a_visitCount, a_inQueue, a_outQueue, a_blockStart, a_blockCount, a_blockRecent, a_links, a_entry, a_cover, a_opKind, a_opMode, a_opArg)) : wpX_step post (f_size, f_executedCount, f_regA, f_regX, f_regS, f_pc, f_flagBits, f_znPending, f_znResult, f_cvKind, f_cvLeft, f_cvRight, f_cvWide, f_inHead, f_inSize, f_outHead, f_outSize, f_lastCode, f_lastDetail, f_cacheLimit, f_lengthLimit, f_hand, f_running, f_linkFrom, f_exitKind, f_controlDone, f_trapCode, f_trapDetail, a_mem, a_marks, a_visitCount, a_inQueue, a_outQueue, a_blockStart, a_blockCount, a_blockRecent, a_links, a_entry, a_cover, a_opKind, a_opMode, a_opArg) (nI idx) p1 := by
  have hin : vp_in (nI idx) 128 := vp_in_nI hi (by decide)
  have ec : (nI idx).toNatClampNeg = idx := nI_clamp (by omega)
  refine And.intro hin (nm_r (e' := 16) (by rw [ec]; exact hK) ?_)
  refine And.intro hin (nm_r (e' := 0) (by rw [ec]; exact hM) ?_)
  refine And.intro hin (nm_r (e' := d) (by rw [ec]; exact hA) ?_)
  refine br_t (by decide) ?_
  refine xs_ea0 ?_
  refine br_t hz ?_
  iterate 2 refine br_t (by decide) ?_
  refine br_f (by decide) ?_
  refine xc_16 ?_
  exact h
theorem xk_17 {post : Int32 → SX → Prop} {idx : Nat} {d p1 : Int32} (hi : idx < 128) (hK : a_opKind idx = 17) (hM : a_opMode idx = 0) (hA : a_opArg idx = d) (hz : 0 < f_size) (h : post 1 (f_size, f_executedCount, f_regA, f_regX, f_regS, (d + f_regX) &&& 65535, f_flagBits, f_znPending, f_znResult, f_cvKind, f_cvLeft, f_cvRight, f_cvWide, f_inHead, f_inSize, f_outHead, f_outSize, f_lastCode, f_lastDetail, f_cacheLimit, f_lengthLimit, f_hand, f_running, f_linkFrom, 2, 1, f_trapCode, f_trapDetail, a_mem, a_marks, a_visitCount, a_inQueue, a_outQueue, a_blockStart, a_blockCount, a_blockRecent, a_links, a_entry, a_cover, a_opKind, a_opMode, a_opArg)) : wpX_step post (f_size, f_executedCount, f_regA, f_regX, f_regS, f_pc, f_flagBits, f_znPending, f_znResult, f_cvKind, f_cvLeft, f_cvRight, f_cvWide, f_inHead, f_inSize, f_outHead, f_outSize, f_lastCode, f_lastDetail, f_cacheLimit, f_lengthLimit, f_hand, f_running, f_linkFrom, f_exitKind, f_controlDone, f_trapCode, f_trapDetail, a_mem, a_marks, a_visitCount, a_inQueue, a_outQueue, a_blockStart, a_blockCount, a_blockRecent, a_links, a_entry, a_cover, a_opKind, a_opMode, a_opArg) (nI idx) p1 := by
  have hin : vp_in (nI idx) 128 := vp_in_nI hi (by decide)
  have ec : (nI idx).toNatClampNeg = idx := nI_clamp (by omega)
  refine And.intro hin (nm_r (e' := 17) (by rw [ec]; exact hK) ?_)
  refine And.intro hin (nm_r (e' := 0) (by rw [ec]; exact hM) ?_)
  refine And.intro hin (nm_r (e' := d) (by rw [ec]; exact hA) ?_)
  refine br_t (by decide) ?_
  refine xs_ea0 ?_
  refine br_t hz ?_
  iterate 2 refine br_t (by decide) ?_
  refine br_f (by decide) ?_
  refine xc_17 ?_
  exact h
theorem xk_cond {k b : Int32} {post : Int32 → SX → Prop} {idx : Nat} {d p1 : Int32} (hi : idx < 128) (hK : a_opKind idx = k) (hM : a_opMode idx = 0) (hA : a_opArg idx = d) (hz : 0 < f_size) (h16 : ¬ k < 16) (h19 : 19 < k) (h32 : k < 32) (h64 : k < 64) (h200 : k < 200) (hcd : ∀ P : Int32 → Prop, P b → wpX_conditionHolds P (f_size, f_executedCount, f_regA, f_regX, f_regS, d, f_flagBits, f_znPending, f_znResult, f_cvKind, f_cvLeft, f_cvRight, f_cvWide, f_inHead, f_inSize, f_outHead, f_outSize, f_lastCode, f_lastDetail, f_cacheLimit, f_lengthLimit, f_hand, f_running, f_linkFrom, 1, 1, f_trapCode, f_trapDetail, a_mem, a_marks, a_visitCount, a_inQueue, a_outQueue, a_blockStart, a_blockCount, a_blockRecent, a_links, a_entry, a_cover, a_opKind, a_opMode, a_opArg) k) (h0 : b = 0 → post 1 (f_size, f_executedCount, f_regA, f_regX, f_regS, p1 + 1, f_flagBits, f_znPending, f_znResult, f_cvKind, f_cvLeft, f_cvRight, f_cvWide, f_inHead, f_inSize, f_outHead, f_outSize, f_lastCode, f_lastDetail, f_cacheLimit, f_lengthLimit, f_hand, f_running, f_linkFrom, 0, 1, f_trapCode, f_trapDetail, a_mem, a_marks, a_visitCount, a_inQueue, a_outQueue, a_blockStart, a_blockCount, a_blockRecent, a_links, a_entry, a_cover, a_opKind, a_opMode, a_opArg)) (h1 : ¬ b = 0 → post 1 (f_size, f_executedCount, f_regA, f_regX, f_regS, d, f_flagBits, f_znPending, f_znResult, f_cvKind, f_cvLeft, f_cvRight, f_cvWide, f_inHead, f_inSize, f_outHead, f_outSize, f_lastCode, f_lastDetail, f_cacheLimit, f_lengthLimit, f_hand, f_running, f_linkFrom, 1, 1, f_trapCode, f_trapDetail, a_mem, a_marks, a_visitCount, a_inQueue, a_outQueue, a_blockStart, a_blockCount, a_blockRecent, a_links, a_entry, a_cover, a_opKind, a_opMode, a_opArg)) : wpX_step post (f_size, f_executedCount, f_regA, f_regX, f_regS, f_pc, f_flagBits, f_znPending, f_znResult, f_cvKind, f_cvLeft, f_cvRight, f_cvWide, f_inHead, f_inSize, f_outHead, f_outSize, f_lastCode, f_lastDetail, f_cacheLimit, f_lengthLimit, f_hand, f_running, f_linkFrom, f_exitKind, f_controlDone, f_trapCode, f_trapDetail, a_mem, a_marks, a_visitCount, a_inQueue, a_outQueue, a_blockStart, a_blockCount, a_blockRecent, a_links, a_entry, a_cover, a_opKind, a_opMode, a_opArg) (nI idx) p1 := by
  have hin : vp_in (nI idx) 128 := vp_in_nI hi (by decide)
  have ec : (nI idx).toNatClampNeg = idx := nI_clamp (by omega)
  refine And.intro hin (nm_r (e' := k) (by rw [ec]; exact hK) ?_)
  refine And.intro hin (nm_r (e' := 0) (by rw [ec]; exact hM) ?_)
  refine And.intro hin (nm_r (e' := d) (by rw [ec]; exact hA) ?_)
  refine br_t h200 ?_
  refine xs_ea0 ?_
  refine br_t hz ?_
  refine br_t h64 ?_
  refine br_t h32 ?_
  refine br_f h16 ?_
  refine xc_cond hcd h16 h19 ?_ ?_
  · exact h0
  · exact h1
theorem xk_19 {a : Nat} {post : Int32 → SX → Prop} {idx : Nat} {d p1 : Int32} (hi : idx < 128) (hK : a_opKind idx = 19) (hM : a_opMode idx = 5) (hA : a_opArg idx = d) (he : f_regS = nI a) (ha : a < 256) (hs : nI a < f_size) (h : post 1 (f_size, f_executedCount, f_regA, f_regX, (f_regS + 1) &&& 65535, a_mem a, f_flagBits, f_znPending, f_znResult, f_cvKind, f_cvLeft, f_cvRight, f_cvWide, f_inHead, f_inSize, f_outHead, f_outSize, f_lastCode, f_lastDetail, f_cacheLimit, f_lengthLimit, f_hand, f_running, f_linkFrom, 2, 1, f_trapCode, f_trapDetail, a_mem, a_marks, a_visitCount, a_inQueue, a_outQueue, a_blockStart, a_blockCount, a_blockRecent, a_links, a_entry, a_cover, a_opKind, a_opMode, a_opArg)) : wpX_step post (f_size, f_executedCount, f_regA, f_regX, f_regS, f_pc, f_flagBits, f_znPending, f_znResult, f_cvKind, f_cvLeft, f_cvRight, f_cvWide, f_inHead, f_inSize, f_outHead, f_outSize, f_lastCode, f_lastDetail, f_cacheLimit, f_lengthLimit, f_hand, f_running, f_linkFrom, f_exitKind, f_controlDone, f_trapCode, f_trapDetail, a_mem, a_marks, a_visitCount, a_inQueue, a_outQueue, a_blockStart, a_blockCount, a_blockRecent, a_links, a_entry, a_cover, a_opKind, a_opMode, a_opArg) (nI idx) p1 := by
  have hin : vp_in (nI idx) 128 := vp_in_nI hi (by decide)
  have ec : (nI idx).toNatClampNeg = idx := nI_clamp (by omega)
  refine And.intro hin (nm_r (e' := 19) (by rw [ec]; exact hK) ?_)
  refine And.intro hin (nm_r (e' := 5) (by rw [ec]; exact hM) ?_)
  refine And.intro hin (nm_r (e' := d) (by rw [ec]; exact hA) ?_)
  refine br_t (by decide) ?_
  refine xs_ea5 he ?_
  refine br_t hs ?_
  iterate 2 refine br_t (by decide) ?_
  refine br_f (by decide) ?_
  refine xc_19 ha ?_
  exact h
theorem xk_38 {a : Nat} {post : Int32 → SX → Prop} {idx : Nat} {d p1 : Int32} (hi : idx < 128) (hK : a_opKind idx = 38) (hM : a_opMode idx = 5) (hA : a_opArg idx = d) (he : f_regS = nI a) (ha : a < 256) (hs : nI a < f_size) (h : post 1 (f_size, f_executedCount, a_mem a, f_regX, (f_regS + 1) &&& 65535, f_pc, f_flagBits, 1, a_mem a, f_cvKind, f_cvLeft, f_cvRight, f_cvWide, f_inHead, f_inSize, f_outHead, f_outSize, f_lastCode, f_lastDetail, f_cacheLimit, f_lengthLimit, f_hand, f_running, f_linkFrom, f_exitKind, f_controlDone, f_trapCode, f_trapDetail, a_mem, a_marks, a_visitCount, a_inQueue, a_outQueue, a_blockStart, a_blockCount, a_blockRecent, a_links, a_entry, a_cover, a_opKind, a_opMode, a_opArg)) : wpX_step post (f_size, f_executedCount, f_regA, f_regX, f_regS, f_pc, f_flagBits, f_znPending, f_znResult, f_cvKind, f_cvLeft, f_cvRight, f_cvWide, f_inHead, f_inSize, f_outHead, f_outSize, f_lastCode, f_lastDetail, f_cacheLimit, f_lengthLimit, f_hand, f_running, f_linkFrom, f_exitKind, f_controlDone, f_trapCode, f_trapDetail, a_mem, a_marks, a_visitCount, a_inQueue, a_outQueue, a_blockStart, a_blockCount, a_blockRecent, a_links, a_entry, a_cover, a_opKind, a_opMode, a_opArg) (nI idx) p1 := by
  have hin : vp_in (nI idx) 128 := vp_in_nI hi (by decide)
  have ec : (nI idx).toNatClampNeg = idx := nI_clamp (by omega)
  refine And.intro hin (nm_r (e' := 38) (by rw [ec]; exact hK) ?_)
  refine And.intro hin (nm_r (e' := 5) (by rw [ec]; exact hM) ?_)
  refine And.intro hin (nm_r (e' := d) (by rw [ec]; exact hA) ?_)
  refine br_t (by decide) ?_
  refine xs_ea5 he ?_
  refine br_t hs ?_
  refine br_t (by decide) ?_
  refine br_f (by decide) ?_
  iterate 8 refine br_f (by decide) ?_
  refine br_t (by decide) ?_
  refine And.intro (vp_in_nI ha (by decide)) ?_
  refine nm_r (e' := a_mem a) (by rw [nI_clamp (by omega)]) ?_
  refine nm_e ?_
  refine xs_setZn ?_
  exact h
theorem xk_40 {a : Nat} {post : Int32 → SX → Prop} {idx : Nat} {d p1 : Int32} (hi : idx < 128) (hK : a_opKind idx = 40) (hM : a_opMode idx = 5) (hA : a_opArg idx = d) (he : f_regS = nI a) (ha : a < 256) (hs : nI a < f_size) (h : post 1 (f_size, f_executedCount, f_regA, f_regX, (f_regS + 1) &&& 65535, f_pc, a_mem a &&& 15, 0, f_znResult, 0, f_cvLeft, f_cvRight, f_cvWide, f_inHead, f_inSize, f_outHead, f_outSize, f_lastCode, f_lastDetail, f_cacheLimit, f_lengthLimit, f_hand, f_running, f_linkFrom, f_exitKind, f_controlDone, f_trapCode, f_trapDetail, a_mem, a_marks, a_visitCount, a_inQueue, a_outQueue, a_blockStart, a_blockCount, a_blockRecent, a_links, a_entry, a_cover, a_opKind, a_opMode, a_opArg)) : wpX_step post (f_size, f_executedCount, f_regA, f_regX, f_regS, f_pc, f_flagBits, f_znPending, f_znResult, f_cvKind, f_cvLeft, f_cvRight, f_cvWide, f_inHead, f_inSize, f_outHead, f_outSize, f_lastCode, f_lastDetail, f_cacheLimit, f_lengthLimit, f_hand, f_running, f_linkFrom, f_exitKind, f_controlDone, f_trapCode, f_trapDetail, a_mem, a_marks, a_visitCount, a_inQueue, a_outQueue, a_blockStart, a_blockCount, a_blockRecent, a_links, a_entry, a_cover, a_opKind, a_opMode, a_opArg) (nI idx) p1 := by
  have hin : vp_in (nI idx) 128 := vp_in_nI hi (by decide)
  have ec : (nI idx).toNatClampNeg = idx := nI_clamp (by omega)
  refine And.intro hin (nm_r (e' := 40) (by rw [ec]; exact hK) ?_)
  refine And.intro hin (nm_r (e' := 5) (by rw [ec]; exact hM) ?_)
  refine And.intro hin (nm_r (e' := d) (by rw [ec]; exact hA) ?_)
  refine br_t (by decide) ?_
  refine xs_ea5 he ?_
  refine br_t hs ?_
  refine br_t (by decide) ?_
  refine br_f (by decide) ?_
  refine br_f (by decide) ?_
  refine br_t (by decide) ?_
  unfold wX_storeOrStack_170
  refine And.intro (vp_in_nI ha (by decide)) ?_
  rw [nI_clamp (by omega)]
  refine xs_loadFlags ?_
  refine nm_e ?_
  exact h
theorem xq_0 {m v e : Int32} {post : Int32 → SX → Prop} {idx : Nat} {d p1 : Int32} (hi : idx < 128) (hK : a_opKind idx = 64) (hM : a_opMode idx = m) (hA : a_opArg idx = d) (hea : ∀ P : Int32 → Prop, P e → wpX_effectiveAddress P (f_size, f_executedCount, f_regA, f_regX, f_regS, f_pc, f_flagBits, f_znPending, f_znResult, f_cvKind, f_cvLeft, f_cvRight, f_cvWide, f_inHead, f_inSize, f_outHead, f_outSize, f_lastCode, f_lastDetail, f_cacheLimit, f_lengthLimit, f_hand, f_running, f_linkFrom, f_exitKind, f_controlDone, f_trapCode, f_trapDetail, a_mem, a_marks, a_visitCount, a_inQueue, a_outQueue, a_blockStart, a_blockCount, a_blockRecent, a_links, a_entry, a_cover, a_opKind, a_opMode, a_opArg) m d) (hs : e < f_size) (hov : ∀ P : Int32 → Prop, P v → wpX_operandValue P (f_size, f_executedCount, f_regA, f_regX, f_regS, f_pc, f_flagBits, f_znPending, f_znResult, f_cvKind, f_cvLeft, f_cvRight, f_cvWide, f_inHead, f_inSize, f_outHead, f_outSize, f_lastCode, f_lastDetail, f_cacheLimit, f_lengthLimit, f_hand, f_running, f_linkFrom, f_exitKind, f_controlDone, f_trapCode, f_trapDetail, a_mem, a_marks, a_visitCount, a_inQueue, a_outQueue, a_blockStart, a_blockCount, a_blockRecent, a_links, a_entry, a_cover, a_opKind, a_opMode, a_opArg) m d e)  (h : post 1 (f_size, f_executedCount, v, f_regX, f_regS, f_pc, f_flagBits, 1, v, f_cvKind, f_cvLeft, f_cvRight, f_cvWide, f_inHead, f_inSize, f_outHead, f_outSize, f_lastCode, f_lastDetail, f_cacheLimit, f_lengthLimit, f_hand, f_running, f_linkFrom, f_exitKind, f_controlDone, f_trapCode, f_trapDetail, a_mem, a_marks, a_visitCount, a_inQueue, a_outQueue, a_blockStart, a_blockCount, a_blockRecent, a_links, a_entry, a_cover, a_opKind, a_opMode, a_opArg)) : wpX_step post (f_size, f_executedCount, f_regA, f_regX, f_regS, f_pc, f_flagBits, f_znPending, f_znResult, f_cvKind, f_cvLeft, f_cvRight, f_cvWide, f_inHead, f_inSize, f_outHead, f_outSize, f_lastCode, f_lastDetail, f_cacheLimit, f_lengthLimit, f_hand, f_running, f_linkFrom, f_exitKind, f_controlDone, f_trapCode, f_trapDetail, a_mem, a_marks, a_visitCount, a_inQueue, a_outQueue, a_blockStart, a_blockCount, a_blockRecent, a_links, a_entry, a_cover, a_opKind, a_opMode, a_opArg) (nI idx) p1 := by
  have hin : vp_in (nI idx) 128 := vp_in_nI hi (by decide)
  have ec : (nI idx).toNatClampNeg = idx := nI_clamp (by omega)
  refine And.intro hin (nm_r (e' := 64) (by rw [ec]; exact hK) ?_)
  refine And.intro hin (nm_r (e' := m) (by rw [ec]; exact hM) ?_)
  refine And.intro hin (nm_r (e' := d) (by rw [ec]; exact hA) ?_)
  refine br_t (by decide) ?_
  refine hea _ ?_
  refine br_t hs ?_
  refine br_f (by decide) ?_
  refine hov _ ?_
  refine xo_0 ?_
  exact ⟨rfl, h⟩
theorem xq_1 {m v e : Int32} {post : Int32 → SX → Prop} {idx : Nat} {d p1 : Int32} (hi : idx < 128) (hK : a_opKind idx = 65) (hM : a_opMode idx = m) (hA : a_opArg idx = d) (hea : ∀ P : Int32 → Prop, P e → wpX_effectiveAddress P (f_size, f_executedCount, f_regA, f_regX, f_regS, f_pc, f_flagBits, f_znPending, f_znResult, f_cvKind, f_cvLeft, f_cvRight, f_cvWide, f_inHead, f_inSize, f_outHead, f_outSize, f_lastCode, f_lastDetail, f_cacheLimit, f_lengthLimit, f_hand, f_running, f_linkFrom, f_exitKind, f_controlDone, f_trapCode, f_trapDetail, a_mem, a_marks, a_visitCount, a_inQueue, a_outQueue, a_blockStart, a_blockCount, a_blockRecent, a_links, a_entry, a_cover, a_opKind, a_opMode, a_opArg) m d) (hs : e < f_size) (hov : ∀ P : Int32 → Prop, P v → wpX_operandValue P (f_size, f_executedCount, f_regA, f_regX, f_regS, f_pc, f_flagBits, f_znPending, f_znResult, f_cvKind, f_cvLeft, f_cvRight, f_cvWide, f_inHead, f_inSize, f_outHead, f_outSize, f_lastCode, f_lastDetail, f_cacheLimit, f_lengthLimit, f_hand, f_running, f_linkFrom, f_exitKind, f_controlDone, f_trapCode, f_trapDetail, a_mem, a_marks, a_visitCount, a_inQueue, a_outQueue, a_blockStart, a_blockCount, a_blockRecent, a_links, a_entry, a_cover, a_opKind, a_opMode, a_opArg) m d e)  (h : post 1 (f_size, f_executedCount, (f_regA + v + 0) &&& 65535, f_regX, f_regS, f_pc, f_flagBits, 1, (f_regA + v + 0) &&& 65535, 1, f_regA, v, f_regA + v + 0, f_inHead, f_inSize, f_outHead, f_outSize, f_lastCode, f_lastDetail, f_cacheLimit, f_lengthLimit, f_hand, f_running, f_linkFrom, f_exitKind, f_controlDone, f_trapCode, f_trapDetail, a_mem, a_marks, a_visitCount, a_inQueue, a_outQueue, a_blockStart, a_blockCount, a_blockRecent, a_links, a_entry, a_cover, a_opKind, a_opMode, a_opArg)) : wpX_step post (f_size, f_executedCount, f_regA, f_regX, f_regS, f_pc, f_flagBits, f_znPending, f_znResult, f_cvKind, f_cvLeft, f_cvRight, f_cvWide, f_inHead, f_inSize, f_outHead, f_outSize, f_lastCode, f_lastDetail, f_cacheLimit, f_lengthLimit, f_hand, f_running, f_linkFrom, f_exitKind, f_controlDone, f_trapCode, f_trapDetail, a_mem, a_marks, a_visitCount, a_inQueue, a_outQueue, a_blockStart, a_blockCount, a_blockRecent, a_links, a_entry, a_cover, a_opKind, a_opMode, a_opArg) (nI idx) p1 := by
  have hin : vp_in (nI idx) 128 := vp_in_nI hi (by decide)
  have ec : (nI idx).toNatClampNeg = idx := nI_clamp (by omega)
  refine And.intro hin (nm_r (e' := 65) (by rw [ec]; exact hK) ?_)
  refine And.intro hin (nm_r (e' := m) (by rw [ec]; exact hM) ?_)
  refine And.intro hin (nm_r (e' := d) (by rw [ec]; exact hA) ?_)
  refine br_t (by decide) ?_
  refine hea _ ?_
  refine br_t hs ?_
  refine br_f (by decide) ?_
  refine hov _ ?_
  refine xo_1 ?_
  exact ⟨rfl, h⟩
theorem xq_2 {m v e : Int32} {post : Int32 → SX → Prop} {idx : Nat} {d p1 : Int32} (hi : idx < 128) (hK : a_opKind idx = 66) (hM : a_opMode idx = m) (hA : a_opArg idx = d) (hea : ∀ P : Int32 → Prop, P e → wpX_effectiveAddress P (f_size, f_executedCount, f_regA, f_regX, f_regS, f_pc, f_flagBits, f_znPending, f_znResult, f_cvKind, f_cvLeft, f_cvRight, f_cvWide, f_inHead, f_inSize, f_outHead, f_outSize, f_lastCode, f_lastDetail, f_cacheLimit, f_lengthLimit, f_hand, f_running, f_linkFrom, f_exitKind, f_controlDone, f_trapCode, f_trapDetail, a_mem, a_marks, a_visitCount, a_inQueue, a_outQueue, a_blockStart, a_blockCount, a_blockRecent, a_links, a_entry, a_cover, a_opKind, a_opMode, a_opArg) m d) (hs : e < f_size) (hov : ∀ P : Int32 → Prop, P v → wpX_operandValue P (f_size, f_executedCount, f_regA, f_regX, f_regS, f_pc, f_flagBits, f_znPending, f_znResult, f_cvKind, f_cvLeft, f_cvRight, f_cvWide, f_inHead, f_inSize, f_outHead, f_outSize, f_lastCode, f_lastDetail, f_cacheLimit, f_lengthLimit, f_hand, f_running, f_linkFrom, f_exitKind, f_controlDone, f_trapCode, f_trapDetail, a_mem, a_marks, a_visitCount, a_inQueue, a_outQueue, a_blockStart, a_blockCount, a_blockRecent, a_links, a_entry, a_cover, a_opKind, a_opMode, a_opArg) m d e) {c : Int32} (hc : c = fg_cb f_flagBits f_cvKind f_cvWide) (h : post 1 (f_size, f_executedCount, (f_regA + v + c) &&& 65535, f_regX, f_regS, f_pc, f_flagBits, 1, (f_regA + v + c) &&& 65535, 1, f_regA, v, f_regA + v + c, f_inHead, f_inSize, f_outHead, f_outSize, f_lastCode, f_lastDetail, f_cacheLimit, f_lengthLimit, f_hand, f_running, f_linkFrom, f_exitKind, f_controlDone, f_trapCode, f_trapDetail, a_mem, a_marks, a_visitCount, a_inQueue, a_outQueue, a_blockStart, a_blockCount, a_blockRecent, a_links, a_entry, a_cover, a_opKind, a_opMode, a_opArg)) : wpX_step post (f_size, f_executedCount, f_regA, f_regX, f_regS, f_pc, f_flagBits, f_znPending, f_znResult, f_cvKind, f_cvLeft, f_cvRight, f_cvWide, f_inHead, f_inSize, f_outHead, f_outSize, f_lastCode, f_lastDetail, f_cacheLimit, f_lengthLimit, f_hand, f_running, f_linkFrom, f_exitKind, f_controlDone, f_trapCode, f_trapDetail, a_mem, a_marks, a_visitCount, a_inQueue, a_outQueue, a_blockStart, a_blockCount, a_blockRecent, a_links, a_entry, a_cover, a_opKind, a_opMode, a_opArg) (nI idx) p1 := by
  have hin : vp_in (nI idx) 128 := vp_in_nI hi (by decide)
  have ec : (nI idx).toNatClampNeg = idx := nI_clamp (by omega)
  refine And.intro hin (nm_r (e' := 66) (by rw [ec]; exact hK) ?_)
  refine And.intro hin (nm_r (e' := m) (by rw [ec]; exact hM) ?_)
  refine And.intro hin (nm_r (e' := d) (by rw [ec]; exact hA) ?_)
  refine br_t (by decide) ?_
  refine hea _ ?_
  refine br_t hs ?_
  refine br_f (by decide) ?_
  refine hov _ ?_
  refine xo_2 hc ?_
  exact ⟨rfl, h⟩
theorem xq_3 {m v e : Int32} {post : Int32 → SX → Prop} {idx : Nat} {d p1 : Int32} (hi : idx < 128) (hK : a_opKind idx = 67) (hM : a_opMode idx = m) (hA : a_opArg idx = d) (hea : ∀ P : Int32 → Prop, P e → wpX_effectiveAddress P (f_size, f_executedCount, f_regA, f_regX, f_regS, f_pc, f_flagBits, f_znPending, f_znResult, f_cvKind, f_cvLeft, f_cvRight, f_cvWide, f_inHead, f_inSize, f_outHead, f_outSize, f_lastCode, f_lastDetail, f_cacheLimit, f_lengthLimit, f_hand, f_running, f_linkFrom, f_exitKind, f_controlDone, f_trapCode, f_trapDetail, a_mem, a_marks, a_visitCount, a_inQueue, a_outQueue, a_blockStart, a_blockCount, a_blockRecent, a_links, a_entry, a_cover, a_opKind, a_opMode, a_opArg) m d) (hs : e < f_size) (hov : ∀ P : Int32 → Prop, P v → wpX_operandValue P (f_size, f_executedCount, f_regA, f_regX, f_regS, f_pc, f_flagBits, f_znPending, f_znResult, f_cvKind, f_cvLeft, f_cvRight, f_cvWide, f_inHead, f_inSize, f_outHead, f_outSize, f_lastCode, f_lastDetail, f_cacheLimit, f_lengthLimit, f_hand, f_running, f_linkFrom, f_exitKind, f_controlDone, f_trapCode, f_trapDetail, a_mem, a_marks, a_visitCount, a_inQueue, a_outQueue, a_blockStart, a_blockCount, a_blockRecent, a_links, a_entry, a_cover, a_opKind, a_opMode, a_opArg) m d e)  (h : post 1 (f_size, f_executedCount, (f_regA - v - 0) &&& 65535, f_regX, f_regS, f_pc, f_flagBits, 1, (f_regA - v - 0) &&& 65535, 2, f_regA, v, f_regA - v - 0, f_inHead, f_inSize, f_outHead, f_outSize, f_lastCode, f_lastDetail, f_cacheLimit, f_lengthLimit, f_hand, f_running, f_linkFrom, f_exitKind, f_controlDone, f_trapCode, f_trapDetail, a_mem, a_marks, a_visitCount, a_inQueue, a_outQueue, a_blockStart, a_blockCount, a_blockRecent, a_links, a_entry, a_cover, a_opKind, a_opMode, a_opArg)) : wpX_step post (f_size, f_executedCount, f_regA, f_regX, f_regS, f_pc, f_flagBits, f_znPending, f_znResult, f_cvKind, f_cvLeft, f_cvRight, f_cvWide, f_inHead, f_inSize, f_outHead, f_outSize, f_lastCode, f_lastDetail, f_cacheLimit, f_lengthLimit, f_hand, f_running, f_linkFrom, f_exitKind, f_controlDone, f_trapCode, f_trapDetail, a_mem, a_marks, a_visitCount, a_inQueue, a_outQueue, a_blockStart, a_blockCount, a_blockRecent, a_links, a_entry, a_cover, a_opKind, a_opMode, a_opArg) (nI idx) p1 := by
  have hin : vp_in (nI idx) 128 := vp_in_nI hi (by decide)
  have ec : (nI idx).toNatClampNeg = idx := nI_clamp (by omega)
  refine And.intro hin (nm_r (e' := 67) (by rw [ec]; exact hK) ?_)
  refine And.intro hin (nm_r (e' := m) (by rw [ec]; exact hM) ?_)
  refine And.intro hin (nm_r (e' := d) (by rw [ec]; exact hA) ?_)
  refine br_t (by decide) ?_
  refine hea _ ?_
  refine br_t hs ?_
  refine br_f (by decide) ?_
  refine hov _ ?_
  refine xo_3 ?_
  exact ⟨rfl, h⟩
theorem xq_4 {m v e : Int32} {post : Int32 → SX → Prop} {idx : Nat} {d p1 : Int32} (hi : idx < 128) (hK : a_opKind idx = 68) (hM : a_opMode idx = m) (hA : a_opArg idx = d) (hea : ∀ P : Int32 → Prop, P e → wpX_effectiveAddress P (f_size, f_executedCount, f_regA, f_regX, f_regS, f_pc, f_flagBits, f_znPending, f_znResult, f_cvKind, f_cvLeft, f_cvRight, f_cvWide, f_inHead, f_inSize, f_outHead, f_outSize, f_lastCode, f_lastDetail, f_cacheLimit, f_lengthLimit, f_hand, f_running, f_linkFrom, f_exitKind, f_controlDone, f_trapCode, f_trapDetail, a_mem, a_marks, a_visitCount, a_inQueue, a_outQueue, a_blockStart, a_blockCount, a_blockRecent, a_links, a_entry, a_cover, a_opKind, a_opMode, a_opArg) m d) (hs : e < f_size) (hov : ∀ P : Int32 → Prop, P v → wpX_operandValue P (f_size, f_executedCount, f_regA, f_regX, f_regS, f_pc, f_flagBits, f_znPending, f_znResult, f_cvKind, f_cvLeft, f_cvRight, f_cvWide, f_inHead, f_inSize, f_outHead, f_outSize, f_lastCode, f_lastDetail, f_cacheLimit, f_lengthLimit, f_hand, f_running, f_linkFrom, f_exitKind, f_controlDone, f_trapCode, f_trapDetail, a_mem, a_marks, a_visitCount, a_inQueue, a_outQueue, a_blockStart, a_blockCount, a_blockRecent, a_links, a_entry, a_cover, a_opKind, a_opMode, a_opArg) m d e) {c : Int32} (hc : c = fg_cb f_flagBits f_cvKind f_cvWide) (h : post 1 (f_size, f_executedCount, (f_regA - v - c) &&& 65535, f_regX, f_regS, f_pc, f_flagBits, 1, (f_regA - v - c) &&& 65535, 2, f_regA, v, f_regA - v - c, f_inHead, f_inSize, f_outHead, f_outSize, f_lastCode, f_lastDetail, f_cacheLimit, f_lengthLimit, f_hand, f_running, f_linkFrom, f_exitKind, f_controlDone, f_trapCode, f_trapDetail, a_mem, a_marks, a_visitCount, a_inQueue, a_outQueue, a_blockStart, a_blockCount, a_blockRecent, a_links, a_entry, a_cover, a_opKind, a_opMode, a_opArg)) : wpX_step post (f_size, f_executedCount, f_regA, f_regX, f_regS, f_pc, f_flagBits, f_znPending, f_znResult, f_cvKind, f_cvLeft, f_cvRight, f_cvWide, f_inHead, f_inSize, f_outHead, f_outSize, f_lastCode, f_lastDetail, f_cacheLimit, f_lengthLimit, f_hand, f_running, f_linkFrom, f_exitKind, f_controlDone, f_trapCode, f_trapDetail, a_mem, a_marks, a_visitCount, a_inQueue, a_outQueue, a_blockStart, a_blockCount, a_blockRecent, a_links, a_entry, a_cover, a_opKind, a_opMode, a_opArg) (nI idx) p1 := by
  have hin : vp_in (nI idx) 128 := vp_in_nI hi (by decide)
  have ec : (nI idx).toNatClampNeg = idx := nI_clamp (by omega)
  refine And.intro hin (nm_r (e' := 68) (by rw [ec]; exact hK) ?_)
  refine And.intro hin (nm_r (e' := m) (by rw [ec]; exact hM) ?_)
  refine And.intro hin (nm_r (e' := d) (by rw [ec]; exact hA) ?_)
  refine br_t (by decide) ?_
  refine hea _ ?_
  refine br_t hs ?_
  refine br_f (by decide) ?_
  refine hov _ ?_
  refine xo_4 hc ?_
  exact ⟨rfl, h⟩
theorem xq_5 {m v e : Int32} {post : Int32 → SX → Prop} {idx : Nat} {d p1 : Int32} (hi : idx < 128) (hK : a_opKind idx = 69) (hM : a_opMode idx = m) (hA : a_opArg idx = d) (hea : ∀ P : Int32 → Prop, P e → wpX_effectiveAddress P (f_size, f_executedCount, f_regA, f_regX, f_regS, f_pc, f_flagBits, f_znPending, f_znResult, f_cvKind, f_cvLeft, f_cvRight, f_cvWide, f_inHead, f_inSize, f_outHead, f_outSize, f_lastCode, f_lastDetail, f_cacheLimit, f_lengthLimit, f_hand, f_running, f_linkFrom, f_exitKind, f_controlDone, f_trapCode, f_trapDetail, a_mem, a_marks, a_visitCount, a_inQueue, a_outQueue, a_blockStart, a_blockCount, a_blockRecent, a_links, a_entry, a_cover, a_opKind, a_opMode, a_opArg) m d) (hs : e < f_size) (hov : ∀ P : Int32 → Prop, P v → wpX_operandValue P (f_size, f_executedCount, f_regA, f_regX, f_regS, f_pc, f_flagBits, f_znPending, f_znResult, f_cvKind, f_cvLeft, f_cvRight, f_cvWide, f_inHead, f_inSize, f_outHead, f_outSize, f_lastCode, f_lastDetail, f_cacheLimit, f_lengthLimit, f_hand, f_running, f_linkFrom, f_exitKind, f_controlDone, f_trapCode, f_trapDetail, a_mem, a_marks, a_visitCount, a_inQueue, a_outQueue, a_blockStart, a_blockCount, a_blockRecent, a_links, a_entry, a_cover, a_opKind, a_opMode, a_opArg) m d e)  (h : post 1 (f_size, f_executedCount, f_regA, f_regX, f_regS, f_pc, f_flagBits, 1, (f_regA - v - 0) &&& 65535, 2, f_regA, v, f_regA - v - 0, f_inHead, f_inSize, f_outHead, f_outSize, f_lastCode, f_lastDetail, f_cacheLimit, f_lengthLimit, f_hand, f_running, f_linkFrom, f_exitKind, f_controlDone, f_trapCode, f_trapDetail, a_mem, a_marks, a_visitCount, a_inQueue, a_outQueue, a_blockStart, a_blockCount, a_blockRecent, a_links, a_entry, a_cover, a_opKind, a_opMode, a_opArg)) : wpX_step post (f_size, f_executedCount, f_regA, f_regX, f_regS, f_pc, f_flagBits, f_znPending, f_znResult, f_cvKind, f_cvLeft, f_cvRight, f_cvWide, f_inHead, f_inSize, f_outHead, f_outSize, f_lastCode, f_lastDetail, f_cacheLimit, f_lengthLimit, f_hand, f_running, f_linkFrom, f_exitKind, f_controlDone, f_trapCode, f_trapDetail, a_mem, a_marks, a_visitCount, a_inQueue, a_outQueue, a_blockStart, a_blockCount, a_blockRecent, a_links, a_entry, a_cover, a_opKind, a_opMode, a_opArg) (nI idx) p1 := by
  have hin : vp_in (nI idx) 128 := vp_in_nI hi (by decide)
  have ec : (nI idx).toNatClampNeg = idx := nI_clamp (by omega)
  refine And.intro hin (nm_r (e' := 69) (by rw [ec]; exact hK) ?_)
  refine And.intro hin (nm_r (e' := m) (by rw [ec]; exact hM) ?_)
  refine And.intro hin (nm_r (e' := d) (by rw [ec]; exact hA) ?_)
  refine br_t (by decide) ?_
  refine hea _ ?_
  refine br_t hs ?_
  refine br_f (by decide) ?_
  refine hov _ ?_
  refine xo_5 ?_
  exact ⟨rfl, h⟩
theorem xq_6 {m v e : Int32} {post : Int32 → SX → Prop} {idx : Nat} {d p1 : Int32} (hi : idx < 128) (hK : a_opKind idx = 70) (hM : a_opMode idx = m) (hA : a_opArg idx = d) (hea : ∀ P : Int32 → Prop, P e → wpX_effectiveAddress P (f_size, f_executedCount, f_regA, f_regX, f_regS, f_pc, f_flagBits, f_znPending, f_znResult, f_cvKind, f_cvLeft, f_cvRight, f_cvWide, f_inHead, f_inSize, f_outHead, f_outSize, f_lastCode, f_lastDetail, f_cacheLimit, f_lengthLimit, f_hand, f_running, f_linkFrom, f_exitKind, f_controlDone, f_trapCode, f_trapDetail, a_mem, a_marks, a_visitCount, a_inQueue, a_outQueue, a_blockStart, a_blockCount, a_blockRecent, a_links, a_entry, a_cover, a_opKind, a_opMode, a_opArg) m d) (hs : e < f_size) (hov : ∀ P : Int32 → Prop, P v → wpX_operandValue P (f_size, f_executedCount, f_regA, f_regX, f_regS, f_pc, f_flagBits, f_znPending, f_znResult, f_cvKind, f_cvLeft, f_cvRight, f_cvWide, f_inHead, f_inSize, f_outHead, f_outSize, f_lastCode, f_lastDetail, f_cacheLimit, f_lengthLimit, f_hand, f_running, f_linkFrom, f_exitKind, f_controlDone, f_trapCode, f_trapDetail, a_mem, a_marks, a_visitCount, a_inQueue, a_outQueue, a_blockStart, a_blockCount, a_blockRecent, a_links, a_entry, a_cover, a_opKind, a_opMode, a_opArg) m d e)  (h : post 1 (f_size, f_executedCount, f_regA &&& v, f_regX, f_regS, f_pc, f_flagBits, 1, f_regA &&& v, f_cvKind, f_cvLeft, f_cvRight, f_cvWide, f_inHead, f_inSize, f_outHead, f_outSize, f_lastCode, f_lastDetail, f_cacheLimit, f_lengthLimit, f_hand, f_running, f_linkFrom, f_exitKind, f_controlDone, f_trapCode, f_trapDetail, a_mem, a_marks, a_visitCount, a_inQueue, a_outQueue, a_blockStart, a_blockCount, a_blockRecent, a_links, a_entry, a_cover, a_opKind, a_opMode, a_opArg)) : wpX_step post (f_size, f_executedCount, f_regA, f_regX, f_regS, f_pc, f_flagBits, f_znPending, f_znResult, f_cvKind, f_cvLeft, f_cvRight, f_cvWide, f_inHead, f_inSize, f_outHead, f_outSize, f_lastCode, f_lastDetail, f_cacheLimit, f_lengthLimit, f_hand, f_running, f_linkFrom, f_exitKind, f_controlDone, f_trapCode, f_trapDetail, a_mem, a_marks, a_visitCount, a_inQueue, a_outQueue, a_blockStart, a_blockCount, a_blockRecent, a_links, a_entry, a_cover, a_opKind, a_opMode, a_opArg) (nI idx) p1 := by
  have hin : vp_in (nI idx) 128 := vp_in_nI hi (by decide)
  have ec : (nI idx).toNatClampNeg = idx := nI_clamp (by omega)
  refine And.intro hin (nm_r (e' := 70) (by rw [ec]; exact hK) ?_)
  refine And.intro hin (nm_r (e' := m) (by rw [ec]; exact hM) ?_)
  refine And.intro hin (nm_r (e' := d) (by rw [ec]; exact hA) ?_)
  refine br_t (by decide) ?_
  refine hea _ ?_
  refine br_t hs ?_
  refine br_f (by decide) ?_
  refine hov _ ?_
  refine xo_6 ?_
  exact ⟨rfl, h⟩
theorem xq_7 {m v e : Int32} {post : Int32 → SX → Prop} {idx : Nat} {d p1 : Int32} (hi : idx < 128) (hK : a_opKind idx = 71) (hM : a_opMode idx = m) (hA : a_opArg idx = d) (hea : ∀ P : Int32 → Prop, P e → wpX_effectiveAddress P (f_size, f_executedCount, f_regA, f_regX, f_regS, f_pc, f_flagBits, f_znPending, f_znResult, f_cvKind, f_cvLeft, f_cvRight, f_cvWide, f_inHead, f_inSize, f_outHead, f_outSize, f_lastCode, f_lastDetail, f_cacheLimit, f_lengthLimit, f_hand, f_running, f_linkFrom, f_exitKind, f_controlDone, f_trapCode, f_trapDetail, a_mem, a_marks, a_visitCount, a_inQueue, a_outQueue, a_blockStart, a_blockCount, a_blockRecent, a_links, a_entry, a_cover, a_opKind, a_opMode, a_opArg) m d) (hs : e < f_size) (hov : ∀ P : Int32 → Prop, P v → wpX_operandValue P (f_size, f_executedCount, f_regA, f_regX, f_regS, f_pc, f_flagBits, f_znPending, f_znResult, f_cvKind, f_cvLeft, f_cvRight, f_cvWide, f_inHead, f_inSize, f_outHead, f_outSize, f_lastCode, f_lastDetail, f_cacheLimit, f_lengthLimit, f_hand, f_running, f_linkFrom, f_exitKind, f_controlDone, f_trapCode, f_trapDetail, a_mem, a_marks, a_visitCount, a_inQueue, a_outQueue, a_blockStart, a_blockCount, a_blockRecent, a_links, a_entry, a_cover, a_opKind, a_opMode, a_opArg) m d e)  (h : post 1 (f_size, f_executedCount, f_regA ||| v, f_regX, f_regS, f_pc, f_flagBits, 1, f_regA ||| v, f_cvKind, f_cvLeft, f_cvRight, f_cvWide, f_inHead, f_inSize, f_outHead, f_outSize, f_lastCode, f_lastDetail, f_cacheLimit, f_lengthLimit, f_hand, f_running, f_linkFrom, f_exitKind, f_controlDone, f_trapCode, f_trapDetail, a_mem, a_marks, a_visitCount, a_inQueue, a_outQueue, a_blockStart, a_blockCount, a_blockRecent, a_links, a_entry, a_cover, a_opKind, a_opMode, a_opArg)) : wpX_step post (f_size, f_executedCount, f_regA, f_regX, f_regS, f_pc, f_flagBits, f_znPending, f_znResult, f_cvKind, f_cvLeft, f_cvRight, f_cvWide, f_inHead, f_inSize, f_outHead, f_outSize, f_lastCode, f_lastDetail, f_cacheLimit, f_lengthLimit, f_hand, f_running, f_linkFrom, f_exitKind, f_controlDone, f_trapCode, f_trapDetail, a_mem, a_marks, a_visitCount, a_inQueue, a_outQueue, a_blockStart, a_blockCount, a_blockRecent, a_links, a_entry, a_cover, a_opKind, a_opMode, a_opArg) (nI idx) p1 := by
  have hin : vp_in (nI idx) 128 := vp_in_nI hi (by decide)
  have ec : (nI idx).toNatClampNeg = idx := nI_clamp (by omega)
  refine And.intro hin (nm_r (e' := 71) (by rw [ec]; exact hK) ?_)
  refine And.intro hin (nm_r (e' := m) (by rw [ec]; exact hM) ?_)
  refine And.intro hin (nm_r (e' := d) (by rw [ec]; exact hA) ?_)
  refine br_t (by decide) ?_
  refine hea _ ?_
  refine br_t hs ?_
  refine br_f (by decide) ?_
  refine hov _ ?_
  refine xo_7 ?_
  exact ⟨rfl, h⟩
theorem xq_8 {m v e : Int32} {post : Int32 → SX → Prop} {idx : Nat} {d p1 : Int32} (hi : idx < 128) (hK : a_opKind idx = 72) (hM : a_opMode idx = m) (hA : a_opArg idx = d) (hea : ∀ P : Int32 → Prop, P e → wpX_effectiveAddress P (f_size, f_executedCount, f_regA, f_regX, f_regS, f_pc, f_flagBits, f_znPending, f_znResult, f_cvKind, f_cvLeft, f_cvRight, f_cvWide, f_inHead, f_inSize, f_outHead, f_outSize, f_lastCode, f_lastDetail, f_cacheLimit, f_lengthLimit, f_hand, f_running, f_linkFrom, f_exitKind, f_controlDone, f_trapCode, f_trapDetail, a_mem, a_marks, a_visitCount, a_inQueue, a_outQueue, a_blockStart, a_blockCount, a_blockRecent, a_links, a_entry, a_cover, a_opKind, a_opMode, a_opArg) m d) (hs : e < f_size) (hov : ∀ P : Int32 → Prop, P v → wpX_operandValue P (f_size, f_executedCount, f_regA, f_regX, f_regS, f_pc, f_flagBits, f_znPending, f_znResult, f_cvKind, f_cvLeft, f_cvRight, f_cvWide, f_inHead, f_inSize, f_outHead, f_outSize, f_lastCode, f_lastDetail, f_cacheLimit, f_lengthLimit, f_hand, f_running, f_linkFrom, f_exitKind, f_controlDone, f_trapCode, f_trapDetail, a_mem, a_marks, a_visitCount, a_inQueue, a_outQueue, a_blockStart, a_blockCount, a_blockRecent, a_links, a_entry, a_cover, a_opKind, a_opMode, a_opArg) m d e)  (h : post 1 (f_size, f_executedCount, f_regA ^^^ v, f_regX, f_regS, f_pc, f_flagBits, 1, f_regA ^^^ v, f_cvKind, f_cvLeft, f_cvRight, f_cvWide, f_inHead, f_inSize, f_outHead, f_outSize, f_lastCode, f_lastDetail, f_cacheLimit, f_lengthLimit, f_hand, f_running, f_linkFrom, f_exitKind, f_controlDone, f_trapCode, f_trapDetail, a_mem, a_marks, a_visitCount, a_inQueue, a_outQueue, a_blockStart, a_blockCount, a_blockRecent, a_links, a_entry, a_cover, a_opKind, a_opMode, a_opArg)) : wpX_step post (f_size, f_executedCount, f_regA, f_regX, f_regS, f_pc, f_flagBits, f_znPending, f_znResult, f_cvKind, f_cvLeft, f_cvRight, f_cvWide, f_inHead, f_inSize, f_outHead, f_outSize, f_lastCode, f_lastDetail, f_cacheLimit, f_lengthLimit, f_hand, f_running, f_linkFrom, f_exitKind, f_controlDone, f_trapCode, f_trapDetail, a_mem, a_marks, a_visitCount, a_inQueue, a_outQueue, a_blockStart, a_blockCount, a_blockRecent, a_links, a_entry, a_cover, a_opKind, a_opMode, a_opArg) (nI idx) p1 := by
  have hin : vp_in (nI idx) 128 := vp_in_nI hi (by decide)
  have ec : (nI idx).toNatClampNeg = idx := nI_clamp (by omega)
  refine And.intro hin (nm_r (e' := 72) (by rw [ec]; exact hK) ?_)
  refine And.intro hin (nm_r (e' := m) (by rw [ec]; exact hM) ?_)
  refine And.intro hin (nm_r (e' := d) (by rw [ec]; exact hA) ?_)
  refine br_t (by decide) ?_
  refine hea _ ?_
  refine br_t hs ?_
  refine br_f (by decide) ?_
  refine hov _ ?_
  refine xo_8 ?_
  exact ⟨rfl, h⟩
theorem xq_9T {m v e : Int32} {post : Int32 → SX → Prop} {idx : Nat} {d p1 : Int32} (hi : idx < 128) (hK : a_opKind idx = 73) (hM : a_opMode idx = m) (hA : a_opArg idx = d) (hea : ∀ P : Int32 → Prop, P e → wpX_effectiveAddress P (f_size, f_executedCount, f_regA, f_regX, f_regS, f_pc, f_flagBits, f_znPending, f_znResult, f_cvKind, f_cvLeft, f_cvRight, f_cvWide, f_inHead, f_inSize, f_outHead, f_outSize, f_lastCode, f_lastDetail, f_cacheLimit, f_lengthLimit, f_hand, f_running, f_linkFrom, f_exitKind, f_controlDone, f_trapCode, f_trapDetail, a_mem, a_marks, a_visitCount, a_inQueue, a_outQueue, a_blockStart, a_blockCount, a_blockRecent, a_links, a_entry, a_cover, a_opKind, a_opMode, a_opArg) m d) (hs : e < f_size) (hov : ∀ P : Int32 → Prop, P v → wpX_operandValue P (f_size, f_executedCount, f_regA, f_regX, f_regS, f_pc, f_flagBits, f_znPending, f_znResult, f_cvKind, f_cvLeft, f_cvRight, f_cvWide, f_inHead, f_inSize, f_outHead, f_outSize, f_lastCode, f_lastDetail, f_cacheLimit, f_lengthLimit, f_hand, f_running, f_linkFrom, f_exitKind, f_controlDone, f_trapCode, f_trapDetail, a_mem, a_marks, a_visitCount, a_inQueue, a_outQueue, a_blockStart, a_blockCount, a_blockRecent, a_links, a_entry, a_cover, a_opKind, a_opMode, a_opArg) m d e) (hv : v = 0) (h : post 0 (f_size, f_executedCount, f_regA, f_regX, f_regS, f_pc, f_flagBits, f_znPending, f_znResult, f_cvKind, f_cvLeft, f_cvRight, f_cvWide, f_inHead, f_inSize, f_outHead, f_outSize, f_lastCode, f_lastDetail, f_cacheLimit, f_lengthLimit, f_hand, f_running, f_linkFrom, f_exitKind, f_controlDone, 10, 0, a_mem, a_marks, a_visitCount, a_inQueue, a_outQueue, a_blockStart, a_blockCount, a_blockRecent, a_links, a_entry, a_cover, a_opKind, a_opMode, a_opArg)) : wpX_step post (f_size, f_executedCount, f_regA, f_regX, f_regS, f_pc, f_flagBits, f_znPending, f_znResult, f_cvKind, f_cvLeft, f_cvRight, f_cvWide, f_inHead, f_inSize, f_outHead, f_outSize, f_lastCode, f_lastDetail, f_cacheLimit, f_lengthLimit, f_hand, f_running, f_linkFrom, f_exitKind, f_controlDone, f_trapCode, f_trapDetail, a_mem, a_marks, a_visitCount, a_inQueue, a_outQueue, a_blockStart, a_blockCount, a_blockRecent, a_links, a_entry, a_cover, a_opKind, a_opMode, a_opArg) (nI idx) p1 := by
  have hin : vp_in (nI idx) 128 := vp_in_nI hi (by decide)
  have ec : (nI idx).toNatClampNeg = idx := nI_clamp (by omega)
  refine And.intro hin (nm_r (e' := 73) (by rw [ec]; exact hK) ?_)
  refine And.intro hin (nm_r (e' := m) (by rw [ec]; exact hM) ?_)
  refine And.intro hin (nm_r (e' := d) (by rw [ec]; exact hA) ?_)
  refine br_t (by decide) ?_
  refine hea _ ?_
  refine br_t hs ?_
  refine br_f (by decide) ?_
  refine hov _ ?_
  refine xo_9T hv ?_
  exact ⟨rfl, h⟩
theorem xq_9 {m v e : Int32} {post : Int32 → SX → Prop} {idx : Nat} {d p1 : Int32} (hi : idx < 128) (hK : a_opKind idx = 73) (hM : a_opMode idx = m) (hA : a_opArg idx = d) (hea : ∀ P : Int32 → Prop, P e → wpX_effectiveAddress P (f_size, f_executedCount, f_regA, f_regX, f_regS, f_pc, f_flagBits, f_znPending, f_znResult, f_cvKind, f_cvLeft, f_cvRight, f_cvWide, f_inHead, f_inSize, f_outHead, f_outSize, f_lastCode, f_lastDetail, f_cacheLimit, f_lengthLimit, f_hand, f_running, f_linkFrom, f_exitKind, f_controlDone, f_trapCode, f_trapDetail, a_mem, a_marks, a_visitCount, a_inQueue, a_outQueue, a_blockStart, a_blockCount, a_blockRecent, a_links, a_entry, a_cover, a_opKind, a_opMode, a_opArg) m d) (hs : e < f_size) (hov : ∀ P : Int32 → Prop, P v → wpX_operandValue P (f_size, f_executedCount, f_regA, f_regX, f_regS, f_pc, f_flagBits, f_znPending, f_znResult, f_cvKind, f_cvLeft, f_cvRight, f_cvWide, f_inHead, f_inSize, f_outHead, f_outSize, f_lastCode, f_lastDetail, f_cacheLimit, f_lengthLimit, f_hand, f_running, f_linkFrom, f_exitKind, f_controlDone, f_trapCode, f_trapDetail, a_mem, a_marks, a_visitCount, a_inQueue, a_outQueue, a_blockStart, a_blockCount, a_blockRecent, a_links, a_entry, a_cover, a_opKind, a_opMode, a_opArg) m d e) (hv : ¬ v = 0) (h : post 1 (f_size, f_executedCount, f_regA / v, f_regA - f_regA / v * v, f_regS, f_pc, f_flagBits, 1, f_regA / v, f_cvKind, f_cvLeft, f_cvRight, f_cvWide, f_inHead, f_inSize, f_outHead, f_outSize, f_lastCode, f_lastDetail, f_cacheLimit, f_lengthLimit, f_hand, f_running, f_linkFrom, f_exitKind, f_controlDone, f_trapCode, f_trapDetail, a_mem, a_marks, a_visitCount, a_inQueue, a_outQueue, a_blockStart, a_blockCount, a_blockRecent, a_links, a_entry, a_cover, a_opKind, a_opMode, a_opArg)) : wpX_step post (f_size, f_executedCount, f_regA, f_regX, f_regS, f_pc, f_flagBits, f_znPending, f_znResult, f_cvKind, f_cvLeft, f_cvRight, f_cvWide, f_inHead, f_inSize, f_outHead, f_outSize, f_lastCode, f_lastDetail, f_cacheLimit, f_lengthLimit, f_hand, f_running, f_linkFrom, f_exitKind, f_controlDone, f_trapCode, f_trapDetail, a_mem, a_marks, a_visitCount, a_inQueue, a_outQueue, a_blockStart, a_blockCount, a_blockRecent, a_links, a_entry, a_cover, a_opKind, a_opMode, a_opArg) (nI idx) p1 := by
  have hin : vp_in (nI idx) 128 := vp_in_nI hi (by decide)
  have ec : (nI idx).toNatClampNeg = idx := nI_clamp (by omega)
  refine And.intro hin (nm_r (e' := 73) (by rw [ec]; exact hK) ?_)
  refine And.intro hin (nm_r (e' := m) (by rw [ec]; exact hM) ?_)
  refine And.intro hin (nm_r (e' := d) (by rw [ec]; exact hA) ?_)
  refine br_t (by decide) ?_
  refine hea _ ?_
  refine br_t hs ?_
  refine br_f (by decide) ?_
  refine hov _ ?_
  refine xo_9 hv ?_
  exact ⟨rfl, h⟩
theorem xq_10 {m v e : Int32} {post : Int32 → SX → Prop} {idx : Nat} {d p1 : Int32} (hi : idx < 128) (hK : a_opKind idx = 74) (hM : a_opMode idx = m) (hA : a_opArg idx = d) (hea : ∀ P : Int32 → Prop, P e → wpX_effectiveAddress P (f_size, f_executedCount, f_regA, f_regX, f_regS, f_pc, f_flagBits, f_znPending, f_znResult, f_cvKind, f_cvLeft, f_cvRight, f_cvWide, f_inHead, f_inSize, f_outHead, f_outSize, f_lastCode, f_lastDetail, f_cacheLimit, f_lengthLimit, f_hand, f_running, f_linkFrom, f_exitKind, f_controlDone, f_trapCode, f_trapDetail, a_mem, a_marks, a_visitCount, a_inQueue, a_outQueue, a_blockStart, a_blockCount, a_blockRecent, a_links, a_entry, a_cover, a_opKind, a_opMode, a_opArg) m d) (hs : e < f_size) (hov : ∀ P : Int32 → Prop, P v → wpX_operandValue P (f_size, f_executedCount, f_regA, f_regX, f_regS, f_pc, f_flagBits, f_znPending, f_znResult, f_cvKind, f_cvLeft, f_cvRight, f_cvWide, f_inHead, f_inSize, f_outHead, f_outSize, f_lastCode, f_lastDetail, f_cacheLimit, f_lengthLimit, f_hand, f_running, f_linkFrom, f_exitKind, f_controlDone, f_trapCode, f_trapDetail, a_mem, a_marks, a_visitCount, a_inQueue, a_outQueue, a_blockStart, a_blockCount, a_blockRecent, a_links, a_entry, a_cover, a_opKind, a_opMode, a_opArg) m d e)  (h : post 1 (f_size, f_executedCount, f_regA, v, f_regS, f_pc, f_flagBits, 1, v, f_cvKind, f_cvLeft, f_cvRight, f_cvWide, f_inHead, f_inSize, f_outHead, f_outSize, f_lastCode, f_lastDetail, f_cacheLimit, f_lengthLimit, f_hand, f_running, f_linkFrom, f_exitKind, f_controlDone, f_trapCode, f_trapDetail, a_mem, a_marks, a_visitCount, a_inQueue, a_outQueue, a_blockStart, a_blockCount, a_blockRecent, a_links, a_entry, a_cover, a_opKind, a_opMode, a_opArg)) : wpX_step post (f_size, f_executedCount, f_regA, f_regX, f_regS, f_pc, f_flagBits, f_znPending, f_znResult, f_cvKind, f_cvLeft, f_cvRight, f_cvWide, f_inHead, f_inSize, f_outHead, f_outSize, f_lastCode, f_lastDetail, f_cacheLimit, f_lengthLimit, f_hand, f_running, f_linkFrom, f_exitKind, f_controlDone, f_trapCode, f_trapDetail, a_mem, a_marks, a_visitCount, a_inQueue, a_outQueue, a_blockStart, a_blockCount, a_blockRecent, a_links, a_entry, a_cover, a_opKind, a_opMode, a_opArg) (nI idx) p1 := by
  have hin : vp_in (nI idx) 128 := vp_in_nI hi (by decide)
  have ec : (nI idx).toNatClampNeg = idx := nI_clamp (by omega)
  refine And.intro hin (nm_r (e' := 74) (by rw [ec]; exact hK) ?_)
  refine And.intro hin (nm_r (e' := m) (by rw [ec]; exact hM) ?_)
  refine And.intro hin (nm_r (e' := d) (by rw [ec]; exact hA) ?_)
  refine br_t (by decide) ?_
  refine hea _ ?_
  refine br_t hs ?_
  refine br_f (by decide) ?_
  refine hov _ ?_
  refine xo_10 ?_
  exact ⟨rfl, h⟩
end XT
end
section
/-! the cache, pure: g s = some (start, count) for a live slot -/
def dc_D (sz w : Nat) : Nat × Nat × Nat :=
  if w / 256 = 0 then (202, 0, 0)
  else if w / 256 ≤ 10 then (w / 256, 0, w % 256)
  else if 16 ≤ w / 256 ∧ w / 256 ≤ 29 then (w / 256, (if w / 256 = 18 then 4 else if w / 256 = 19 then 5 else 0), w % 256)
  else if 32 ≤ w / 256 ∧ w / 256 ≤ 40 then
    (if w / 256 = 33 then (32, 2, w % 256) else if w / 256 = 36 then (35, 2, w % 256) else if w / 256 = 37 ∨ w / 256 = 39 then (w / 256, 4, w % 256)
     else if w / 256 = 38 ∨ w / 256 = 40 then (w / 256, 5, w % 256) else if w % 256 < sz then (w / 256, 1, w % 256) else (209, 0, w % 256))
  else if 64 ≤ w / 256 ∧ w / 256 ≤ 107 then
    (if (w / 256) % 4 = 1 then (if w % 256 < sz then (64 + (w / 256 - 64) / 4, 1, w % 256) else (209, 0, w % 256))
     else if (w / 256 - 64) / 4 = 9 ∧ (w / 256) % 4 = 0 ∧ w % 256 = 0 then (210, 0, 0) else (64 + (w / 256 - 64) / 4, (w / 256) % 4, w % 256))
  else (208, 0, w)
def dc_ok (sz : Nat) (x k m a : Int32) : Prop := ∃ w : Nat, w < 65536 ∧ x = nI w ∧ k = nI (dc_D sz w).1 ∧ m = nI (dc_D sz w).2.1 ∧ a = nI (dc_D sz w).2.2
def dc_go (k : Int32) : Prop := k < 200 ∧ (k < 16 ∨ 29 < k)
def ca_del (g : Nat → Option (Nat × Nat)) (s : Nat) : Nat → Option (Nat × Nat) := fun j => if j = s then none else g j
def ca_put (g : Nat → Option (Nat × Nat)) (s st ct : Nat) : Nat → Option (Nat × Nat) := fun j => if j = s then some (st, ct) else g j
theorem ca_del_s {g : Nat → Option (Nat × Nat)} {s : Nat} : ca_del g s s = none := if_pos rfl
theorem ca_del_n {g : Nat → Option (Nat × Nat)} {s j : Nat} (h : j ≠ s) : ca_del g s j = g j := if_neg h
theorem ca_put_s {g : Nat → Option (Nat × Nat)} {s st ct : Nat} : ca_put g s st ct s = some (st, ct) := if_pos rfl
theorem ca_put_n {g : Nat → Option (Nat × Nat)} {s st ct j : Nat} (h : j ≠ s) : ca_put g s st ct j = g j := if_neg h
def ca_cov (g : Nat → Option (Nat × Nat)) (s a : Nat) : Nat := match g s with
  | none => 0
  | some p => if p.1 ≤ a ∧ a < p.1 + p.2 then 1 else 0
theorem ca_cov_n {g : Nat → Option (Nat × Nat)} {s a : Nat} (h : g s = none) : ca_cov g s a = 0 := by unfold ca_cov; rw [h]
theorem ca_cov_s {g : Nat → Option (Nat × Nat)} {s a st ct : Nat} (h : g s = some (st, ct)) : ca_cov g s a = if st ≤ a ∧ a < st + ct then 1 else 0 := by unfold ca_cov; rw [h]
theorem ca_cov_e {g g' : Nat → Option (Nat × Nat)} {s a : Nat} (h : g' s = g s) : ca_cov g' s a = ca_cov g s a := by unfold ca_cov; rw [h]
def ca_cnt (g : Nat → Option (Nat × Nat)) (a : Nat) : Nat → Nat
  | 0 => 0
  | n + 1 => ca_cnt g a n + ca_cov g n a
theorem ca_cnt_e {g g' : Nat → Option (Nat × Nat)} {a : Nat} : ∀ n, (∀ j, j < n → g' j = g j) → ca_cnt g' a n = ca_cnt g a n := by
  intro n
  induction n with
  | zero => intro _; rfl
  | succ n ih =>
    intro h
    show ca_cnt g' a n + ca_cov g' n a = ca_cnt g a n + ca_cov g n a
    rw [ih (fun j hj => h j (by omega)), ca_cov_e (h n (by omega))]
theorem ca_cnt_c {g g' : Nat → Option (Nat × Nat)} {s a : Nat} (h : ∀ j, j ≠ s → g' j = g j) : ∀ n, s < n → ca_cnt g' a n + ca_cov g s a = ca_cnt g a n + ca_cov g' s a := by
  intro n
  induction n with
  | zero => intro h; omega
  | succ n ih =>
    intro hs
    show ca_cnt g' a n + ca_cov g' n a + ca_cov g s a = ca_cnt g a n + ca_cov g n a + ca_cov g' s a
    by_cases e : s = n
    · subst e
      rw [ca_cnt_e (g := g) (g' := g') s (fun j hj => h j (by omega))]
      omega
    · have h1 := ih (by omega)
      rw [ca_cov_e (h n (by omega))]
      omega
theorem ca_cov_le {g : Nat → Option (Nat × Nat)} {s a : Nat} : ca_cov g s a ≤ 1 := by
  cases h : g s with
  | none => rw [ca_cov_n h]; omega
  | some p =>
    obtain ⟨st, ct⟩ := p
    rw [ca_cov_s h]
    by_cases e : st ≤ a ∧ a < st + ct
    · rw [if_pos e]; omega
    · rw [if_neg e]; omega
theorem ca_cnt_le {g : Nat → Option (Nat × Nat)} {a : Nat} : ∀ n, ca_cnt g a n ≤ n := by
  intro n
  induction n with
  | zero => exact Nat.le_refl 0
  | succ n ih =>
    show ca_cnt g a n + ca_cov g n a ≤ n + 1
    have := ca_cov_le (g := g) (s := n) (a := a)
    omega
theorem ca_cnt_p {g : Nat → Option (Nat × Nat)} {s a : Nat} : ∀ n, s < n → ca_cov g s a ≤ ca_cnt g a n := by
  intro n
  induction n with
  | zero => intro h; omega
  | succ n ih =>
    intro hs
    show ca_cov g s a ≤ ca_cnt g a n + ca_cov g n a
    by_cases e : s = n
    · subst e; omega
    · have := ih (by omega)
      omega
def ca_tg (oA : Nat → Int32) (s st ct e : Nat) : Int32 := if e = 0 then nI (st + ct) else oA (s * 16 + (ct - 1))
def ca_B (sz : Nat) (mem mk bs bc en oK oM oA : Nat → Int32) (s st ct : Nat) : Prop :=
  bs s = nI st ∧ bc s = nI ct ∧ 1 ≤ ct ∧ ct ≤ 16 ∧ st + ct ≤ sz ∧ en st = nI s ∧
  (∀ i, i < ct → dc_ok sz (mem (st + i)) (oK (s * 16 + i)) (oM (s * 16 + i)) (oA (s * 16 + i))) ∧
  (∀ i, 0 < i → i < ct → mk (st + i) = 0) ∧
  (∀ i, i + 1 < ct → dc_go (oK (s * 16 + i)))
def ca_CI (sz : Nat) (g : Nat → Option (Nat × Nat)) (mem mk bs bc lk en cv oK oM oA : Nat → Int32) : Prop :=
  (∀ s, s < 8 → g s = none → bs s = -1) ∧
  (∀ s st ct, s < 8 → g s = some (st, ct) → ca_B sz mem mk bs bc en oK oM oA s st ct) ∧
  (∀ a, a < 256 → en a = -1 ∨ ∃ s ct, s < 8 ∧ en a = nI s ∧ g s = some (a, ct)) ∧
  (∀ a, a < 256 → cv a = nI (ca_cnt g a 8)) ∧
  (∀ s e, s < 8 → e < 2 → lk (s * 2 + e) = -1 ∨ ∃ t st ct tg ct', t < 8 ∧ lk (s * 2 + e) = nI t ∧ g s = some (st, ct) ∧ g t = some (tg, ct') ∧ nI tg = ca_tg oA s st ct e)
/-- no live block at slot t covers a -/
def ca_nc (g : Nat → Option (Nat × Nat)) (t a : Nat) : Prop := ∀ st ct, g t = some (st, ct) → ¬ (st ≤ a ∧ a < st + ct)
def ca_DR (g : Nat → Option (Nat × Nat)) (run lf : Int32) (g' : Nat → Option (Nat × Nat)) (run' lf' : Int32) : Prop :=
  (∀ s, g' s = g s ∨ g' s = none) ∧ (run' = run ∨ run' = -1) ∧ (lf' = lf ∨ lf' = -1) ∧ (∀ r, r < 8 → run' = nI r → g' r = g r) ∧ (∀ r, r < 8 → lf' = nI r → g' r = g r)
theorem ca_DRr {g : Nat → Option (Nat × Nat)} {run lf : Int32} : ca_DR g run lf g run lf :=
  ⟨fun _ => Or.inl rfl, Or.inl rfl, Or.inl rfl, fun _ _ _ => rfl, fun _ _ _ => rfl⟩
theorem ca_DRt {g g1 g2 : Nat → Option (Nat × Nat)} {r l r1 l1 r2 l2 : Int32} (h : ca_DR g r l g1 r1 l1) (k : ca_DR g1 r1 l1 g2 r2 l2) : ca_DR g r l g2 r2 l2 := by
  obtain ⟨a1, a2, a3, a4, a5⟩ := h
  obtain ⟨b1, b2, b3, b4, b5⟩ := k
  refine ⟨?_, ?_, ?_, ?_, ?_⟩
  · intro s
    rcases b1 s with e | e
    · rw [e]; exact a1 s
    · exact Or.inr e
  · rcases b2 with e | e
    · rw [e]; exact a2
    · exact Or.inr e
  · rcases b3 with e | e
    · rw [e]; exact a3
    · exact Or.inr e
  · intro s hs e
    rcases b2 with e2 | e2
    · rw [b4 s hs e, a4 s hs (e2.symm.trans e)]
    · exact absurd (e2.symm.trans e) (ab_ne1' (by omega))
  · intro s hs e
    rcases b3 with e2 | e2
    · rw [b5 s hs e, a5 s hs (e2.symm.trans e)]
    · exact absurd (e2.symm.trans e) (ab_ne1' (by omega))
theorem ca_DRd {g : Nat → Option (Nat × Nat)} {run lf : Int32} {s : Nat} : ca_DR g run lf (ca_del g s) (if run = nI s then -1 else run) (if lf = nI s then -1 else lf) := by
  have key : ∀ x : Int32, ∀ r, r < 8 → (if x = nI s then -1 else x) = nI r → ca_del g s r = g r := by
    intro x r hr e
    by_cases hx : x = nI s
    · rw [if_pos hx] at e
      exact absurd e (ab_ne1' (by omega))
    · rw [if_neg hx] at e
      refine ca_del_n ?_
      intro e2
      exact hx (by rw [e, e2])
  refine ⟨?_, ?_, ?_, key run, key lf⟩
  · intro t
    by_cases e : t = s
    · rw [e]; exact Or.inr ca_del_s
    · exact Or.inl (ca_del_n e)
  · by_cases e : run = nI s
    · rw [if_pos e]; exact Or.inr rfl
    · rw [if_neg e]; exact Or.inl rfl
  · by_cases e : lf = nI s
    · rw [if_pos e]; exact Or.inr rfl
    · rw [if_neg e]; exact Or.inl rfl
section CA
variable {sz : Nat} {g : Nat → Option (Nat × Nat)} {mem mk bs bc lk en cv oK oM oA : Nat → Int32}
theorem ca_none (C : ca_CI sz g mem mk bs bc lk en cv oK oM oA) {s : Nat} (hs : s < 8) (h : g s = none) : bs s = -1 := C.1 s hs h
theorem ca_some (C : ca_CI sz g mem mk bs bc lk en cv oK oM oA) {s st ct : Nat} (hs : s < 8) (h : g s = some (st, ct)) : ca_B sz mem mk bs bc en oK oM oA s st ct := C.2.1 s st ct hs h
theorem ca_eno (C : ca_CI sz g mem mk bs bc lk en cv oK oM oA) {s t st ct ct' : Nat} (hs : s < 8) (ht : t < 8) (h : g s = some (st, ct)) (h' : g t = some (st, ct')) : s = t := by
  have h1 := (ca_some C hs h).2.2.2.2.2.1
  have h2 := (ca_some C ht h').2.2.2.2.2.1
  exact ab_im (h1.symm.trans h2) (by omega) (by omega)
theorem ca_Ldrop (C : ca_CI sz g mem mk bs bc lk en cv oK oM oA) (hz : sz ≤ 256) {s st ct : Nat} (hs : s < 8) (hg : g s = some (st, ct)) {lk' cv' : Nat → Int32}
    (hl : ∀ k, k < 16 → lk' k = -1 ∨ (lk' k = lk k ∧ lk k ≠ nI s ∧ k ≠ s * 2 ∧ k ≠ s * 2 + 1))
    (hc : ∀ a, cv' a = if st ≤ a ∧ a < st + ct then cv a - 1 else cv a) :
    ca_CI sz (ca_del g s) mem mk (upd bs s (-1)) (upd bc s 0) lk' (upd en st (-1)) cv' oK oM oA := by
  have Bs := ca_some C hs hg
  refine ⟨?_, ?_, ?_, ?_, ?_⟩
  · intro t ht h
    by_cases e : t = s
    · rw [e, pk_us]
    · rw [pk_un e]
      rw [ca_del_n e] at h
      exact C.1 t ht h
  · intro t st' ct' ht h
    have e : t ≠ s := by
      intro e
      rw [e, ca_del_s] at h
      cases h
    rw [ca_del_n e] at h
    obtain ⟨b1, b2, b3, b4, b5, b6, b7, b8, b9⟩ := ca_some C ht h
    have e2 : st' ≠ st := by
      intro e2
      rw [e2] at h
      exact e (ca_eno C ht hs h hg)
    refine ⟨?_, ?_, b3, b4, b5, ?_, b7, b8, b9⟩
    · rw [pk_un e]; exact b1
    · rw [pk_un e]; exact b2
    · rw [pk_un e2]; exact b6
  · intro a ha
    by_cases e : a = st
    · rw [e, pk_us]; exact Or.inl rfl
    · rw [pk_un e]
      rcases C.2.2.1 a ha with h | ⟨t, ct', ht, h1, h2⟩
      · exact Or.inl h
      · refine Or.inr ⟨t, ct', ht, h1, ?_⟩
        rw [ca_del_n]
        · exact h2
        · intro e2
          rw [e2, hg] at h2
          injection h2 with h2
          injection h2 with h3 h4
          exact e h3.symm
  · intro a ha
    have h1 := ca_cnt_c (g := g) (g' := ca_del g s) (s := s) (a := a) (fun j hj => ca_del_n hj) 8 hs
    rw [ca_cov_n (g := ca_del g s) ca_del_s, ca_cov_s hg] at h1
    rw [hc a]
    have h2 := C.2.2.2.1 a ha
    by_cases e : st ≤ a ∧ a < st + ct
    · rw [if_pos e] at h1
      rw [if_pos e, h2]
      have e3 : ca_cnt g a 8 = ca_cnt (ca_del g s) a 8 + 1 := by omega
      rw [e3, nI_pred]
    · rw [if_neg e] at h1
      rw [if_neg e, h2]
      have e3 : ca_cnt g a 8 = ca_cnt (ca_del g s) a 8 := by omega
      rw [e3]
  · intro t e ht he
    rcases hl (t * 2 + e) (by omega) with h | ⟨h1, h2, h3, h4⟩
    · exact Or.inl h
    · have hts : t ≠ s := by omega
      rcases C.2.2.2.2 t e ht he with h | ⟨t', st', ct', tg, ct2, q1, q2, q3, q4, q5⟩
      · exact Or.inl (h1.trans h)
      · have ht' : t' ≠ s := by
          intro e2
          rw [e2] at q2
          exact h2 q2
        exact Or.inr ⟨t', st', ct', tg, ct2, q1, h1.trans q2, (ca_del_n hts).trans q3, (ca_del_n ht').trans q4, q5⟩
theorem ca_Lmem (C : ca_CI sz g mem mk bs bc lk en cv oK oM oA) {a : Nat} {w : Int32} (h : ∀ t, t < 8 → ca_nc g t a) : ca_CI sz g (upd mem a w) mk bs bc lk en cv oK oM oA := by
  refine ⟨C.1, ?_, C.2.2⟩
  intro s st ct hs hg
  obtain ⟨b1, b2, b3, b4, b5, b6, b7, b8, b9⟩ := ca_some C hs hg
  refine ⟨b1, b2, b3, b4, b5, b6, ?_, b8, b9⟩
  intro i hi
  have e : st + i ≠ a := by
    intro e
    exact h s hs st ct hg (by omega)
  rw [pk_un e]
  exact b7 i hi
theorem ca_Lmk (C : ca_CI sz g mem mk bs bc lk en cv oK oM oA) {a : Nat} {w : Int32} (h : w = 0 ∨ ¬ mk a = 0 ∨ ∀ t, t < 8 → ca_nc g t a) : ca_CI sz g mem (upd mk a w) bs bc lk en cv oK oM oA := by
  refine ⟨C.1, ?_, C.2.2⟩
  intro s st ct hs hg
  obtain ⟨b1, b2, b3, b4, b5, b6, b7, b8, b9⟩ := ca_some C hs hg
  refine ⟨b1, b2, b3, b4, b5, b6, b7, ?_, b9⟩
  intro i h0 hi
  by_cases e : st + i = a
  · rcases h with h | h | h
    · rw [e, pk_us]; exact h
    · exact absurd (e ▸ b8 i h0 hi) h
    · exact absurd (show st ≤ a ∧ a < st + ct by omega) (h s hs st ct hg)
  · rw [pk_un e]
    exact b8 i h0 hi
theorem ca_Llink (C : ca_CI sz g mem mk bs bc lk en cv oK oM oA) {r st ct t tg ct' e : Nat} (hr : r < 8) (he : e < 2) (ht : t < 8) (h1 : g r = some (st, ct)) (h2 : g t = some (tg, ct')) (h3 : nI tg = ca_tg oA r st ct e) : ca_CI sz g mem mk bs bc (upd lk (r * 2 + e) (nI t)) en cv oK oM oA := by
  refine ⟨C.1, C.2.1, C.2.2.1, C.2.2.2.1, ?_⟩
  intro s e' hs he'
  by_cases q : s * 2 + e' = r * 2 + e
  · have q1 : s = r := by omega
    have q2 : e' = e := by omega
    subst q1 q2
    refine Or.inr ⟨t, st, ct, tg, ct', ht, pk_us, h1, h2, h3⟩
  · rw [pk_un q]
    exact C.2.2.2.2 s e' hs he'
theorem ca_Lzero (C : ca_CI sz g mem mk bs bc lk en cv oK oM oA) {a : Nat} (ha : a < 256) (h : cv a = 0) : ∀ t, t < 8 → ca_nc g t a := by
  intro t ht st ct hg hh
  have h1 := C.2.2.2.1 a ha
  rw [h] at h1
  have h2 : ca_cnt g a 8 = 0 := (ab_im (a := 0) (b := ca_cnt g a 8) h1 (by decide) (by have := ca_cnt_le (g := g) (a := a) 8; omega)).symm
  have h3 := ca_cnt_p (g := g) (s := t) (a := a) 8 ht
  rw [ca_cov_s hg, if_pos hh] at h3
  omega
end CA
end
section
/-! X: dropBlock, dropCovering, store -/
section XD
variable {f_size f_executedCount f_regA f_regX f_regS f_pc f_flagBits f_znPending f_znResult f_cvKind f_cvLeft f_cvRight f_cvWide f_inHead f_inSize f_outHead f_outSize f_lastCode f_lastDetail f_cacheLimit f_lengthLimit f_hand f_running f_linkFrom f_exitKind f_controlDone f_trapCode f_trapDetail : Int32} {a_mem a_marks a_visitCount a_inQueue a_outQueue a_blockStart a_blockCount a_blockRecent a_links a_entry a_cover a_opKind a_opMode a_opArg : Nat → Int32}
theorem xd_138 {post : SX → Prop} {s : Nat} (K : post (f_size, f_executedCount, f_regA, f_regX, f_regS, f_pc, f_flagBits, f_znPending, f_znResult, f_cvKind, f_cvLeft, f_cvRight, f_cvWide, f_inHead, f_inSize, f_outHead, f_outSize, f_lastCode, f_lastDetail, f_cacheLimit, f_lengthLimit, f_hand, if f_running = nI s then -1 else f_running, if f_linkFrom = nI s then -1 else f_linkFrom, f_exitKind, f_controlDone, f_trapCode, f_trapDetail, a_mem, a_marks, a_visitCount, a_inQueue, a_outQueue, a_blockStart, a_blockCount, a_blockRecent, a_links, a_entry, a_cover, a_opKind, a_opMode, a_opArg)) :
    ((f_running = nI s → wX_dropBlock_138 post (nI s) f_size f_executedCount f_regA f_regX f_regS f_pc f_flagBits f_znPending f_znResult f_cvKind f_cvLeft f_cvRight f_cvWide f_inHead f_inSize f_outHead f_outSize f_lastCode f_lastDetail f_cacheLimit f_lengthLimit f_hand (-1) f_linkFrom f_exitKind f_controlDone f_trapCode f_trapDetail a_mem a_marks a_visitCount a_inQueue a_outQueue a_blockStart a_blockCount a_blockRecent a_links a_entry a_cover a_opKind a_opMode a_opArg) ∧ (¬ f_running = nI s → wX_dropBlock_138 post (nI s) f_size f_executedCount f_regA f_regX f_regS f_pc f_flagBits f_znPending f_znResult f_cvKind f_cvLeft f_cvRight f_cvWide f_inHead f_inSize f_outHead f_outSize f_lastCode f_lastDetail f_cacheLimit f_lengthLimit f_hand f_running f_linkFrom f_exitKind f_controlDone f_trapCode f_trapDetail a_mem a_marks a_visitCount a_inQueue a_outQueue a_blockStart a_blockCount a_blockRecent a_links a_entry a_cover a_opKind a_opMode a_opArg)) := by
  refine ab_if (P := fun z => post (f_size, f_executedCount, f_regA, f_regX, f_regS, f_pc, f_flagBits, f_znPending, f_znResult, f_cvKind, f_cvLeft, f_cvRight, f_cvWide, f_inHead, f_inSize, f_outHead, f_outSize, f_lastCode, f_lastDetail, f_cacheLimit, f_lengthLimit, f_hand, z, if f_linkFrom = nI s then -1 else f_linkFrom, f_exitKind, f_controlDone, f_trapCode, f_trapDetail, a_mem, a_marks, a_visitCount, a_inQueue, a_outQueue, a_blockStart, a_blockCount, a_blockRecent, a_links, a_entry, a_cover, a_opKind, a_opMode, a_opArg)) K (fun h => ?_) (fun h => ?_)
  · exact ab_if (P := fun z => post (f_size, f_executedCount, f_regA, f_regX, f_regS, f_pc, f_flagBits, f_znPending, f_znResult, f_cvKind, f_cvLeft, f_cvRight, f_cvWide, f_inHead, f_inSize, f_outHead, f_outSize, f_lastCode, f_lastDetail, f_cacheLimit, f_lengthLimit, f_hand, -1, z, f_exitKind, f_controlDone, f_trapCode, f_trapDetail, a_mem, a_marks, a_visitCount, a_inQueue, a_outQueue, a_blockStart, a_blockCount, a_blockRecent, a_links, a_entry, a_cover, a_opKind, a_opMode, a_opArg)) h id id
  · exact ab_if (P := fun z => post (f_size, f_executedCount, f_regA, f_regX, f_regS, f_pc, f_flagBits, f_znPending, f_znResult, f_cvKind, f_cvLeft, f_cvRight, f_cvWide, f_inHead, f_inSize, f_outHead, f_outSize, f_lastCode, f_lastDetail, f_cacheLimit, f_lengthLimit, f_hand, f_running, z, f_exitKind, f_controlDone, f_trapCode, f_trapDetail, a_mem, a_marks, a_visitCount, a_inQueue, a_outQueue, a_blockStart, a_blockCount, a_blockRecent, a_links, a_entry, a_cover, a_opKind, a_opMode, a_opArg)) h id id
theorem xd_93 {post : SX → Prop} {s : Nat} : ∀ d i, i + d = 16 → ∀ n, d < n → ∀ lk : Nat → Int32,
    (∀ lk' : Nat → Int32, (∀ k, k < 16 → (lk' k = -1 ∨ lk' k = lk k) ∧ (i ≤ k → lk' k ≠ nI s ∨ lk' k = -1)) → post (f_size, f_executedCount, f_regA, f_regX, f_regS, f_pc, f_flagBits, f_znPending, f_znResult, f_cvKind, f_cvLeft, f_cvRight, f_cvWide, f_inHead, f_inSize, f_outHead, f_outSize, f_lastCode, f_lastDetail, f_cacheLimit, f_lengthLimit, f_hand, if f_running = nI s then -1 else f_running, if f_linkFrom = nI s then -1 else f_linkFrom, f_exitKind, f_controlDone, f_trapCode, f_trapDetail, a_mem, a_marks, a_visitCount, a_inQueue, a_outQueue, a_blockStart, a_blockCount, a_blockRecent, lk', a_entry, a_cover, a_opKind, a_opMode, a_opArg)) →
    wX_dropBlock_93 post (nI s) f_size f_executedCount f_regA f_regX f_regS f_pc f_flagBits f_znPending f_znResult f_cvKind f_cvLeft f_cvRight f_cvWide f_inHead f_inSize f_outHead f_outSize f_lastCode f_lastDetail f_cacheLimit f_lengthLimit f_hand f_running f_linkFrom f_exitKind f_controlDone f_trapCode f_trapDetail n (nI i) a_mem a_marks a_visitCount a_inQueue a_outQueue a_blockStart a_blockCount a_blockRecent lk a_entry a_cover a_opKind a_opMode a_opArg := by
  intro d
  induction d with
  | zero =>
    intro i hi n hn lk K
    obtain ⟨n, rfl⟩ : ∃ m, n = m + 1 := ⟨n - 1, by omega⟩
    refine br_t (nI_le (a := 16) (by omega) (by omega)) ?_
    refine xd_138 ?_
    exact K lk (fun k hk => ⟨Or.inr rfl, fun h => by omega⟩)
  | succ d ih =>
    intro i hi n hn lk K
    obtain ⟨n, rfl⟩ : ∃ m, n = m + 1 := ⟨n - 1, by omega⟩
    have hin : vp_in (nI i) 16 := vp_in_nI (by omega) (by decide)
    have ec : (nI i).toNatClampNeg = i := nI_clamp (by omega)
    refine br_f (nI_ge (b := 16) (by omega) (by decide)) ?_
    refine And.intro hin ?_
    refine br_c (fun e => ?_) (fun e => ?_)
    · refine And.intro hin ?_
      refine nm_r (e' := upd lk i (-1)) (by rw [ec]) ?_
      refine nm_r (e' := nI (i + 1)) (nI_1 i) ?_
      refine ih (i + 1) (by omega) n (by omega) _ ?_
      intro lk' h
      refine K lk' ?_
      intro k hk
      obtain ⟨h1, h2⟩ := h k hk
      by_cases q : k = i
      · subst q
        rw [pk_us] at h1
        have h3 : lk' k = -1 := h1.elim id id
        exact ⟨Or.inl h3, fun _ => Or.inr h3⟩
      · rw [pk_un q] at h1
        exact ⟨h1, fun h => h2 (by omega)⟩
    · refine nm_r (e' := nI (i + 1)) (nI_1 i) ?_
      refine ih (i + 1) (by omega) n (by omega) _ ?_
      intro lk' h
      refine K lk' ?_
      intro k hk
      obtain ⟨h1, h2⟩ := h k hk
      refine ⟨h1, fun hik => ?_⟩
      by_cases q : k = i
      · subst q
        rcases h1 with h1 | h1
        · exact Or.inr h1
        · rw [ec] at e
          exact Or.inl (by rw [h1]; exact e)
      · exact h2 (by omega)
theorem xd_17 {post : SX → Prop} {s st ct : Nat} (hs : s < 8) (hst : st + ct ≤ 256) (hst2 : st < 256) : ∀ d i, i + d = ct → ∀ n, d < n → ∀ cv : Nat → Int32,
    (∀ cv' : Nat → Int32, (∀ a, cv' a = if st + i ≤ a ∧ a < st + ct then cv a - 1 else cv a) → ∃ n93, wX_dropBlock_93 post (nI s) f_size f_executedCount f_regA f_regX f_regS f_pc f_flagBits f_znPending f_znResult f_cvKind f_cvLeft f_cvRight f_cvWide f_inHead f_inSize f_outHead f_outSize f_lastCode f_lastDetail f_cacheLimit f_lengthLimit f_hand f_running f_linkFrom f_exitKind f_controlDone f_trapCode f_trapDetail n93 0 a_mem a_marks a_visitCount a_inQueue a_outQueue (upd a_blockStart s (-1)) (upd a_blockCount s 0) (upd a_blockRecent s (vp_nar .boolean 0)) (upd (upd a_links (s * 2) (-1)) (s * 2 + 1) (-1)) (upd a_entry st (-1)) cv' a_opKind a_opMode a_opArg) →
    wX_dropBlock_17 post (nI s) (nI st) (nI ct) f_size f_executedCount f_regA f_regX f_regS f_pc f_flagBits f_znPending f_znResult f_cvKind f_cvLeft f_cvRight f_cvWide f_inHead f_inSize f_outHead f_outSize f_lastCode f_lastDetail f_cacheLimit f_lengthLimit f_hand f_running f_linkFrom f_exitKind f_controlDone f_trapCode f_trapDetail n (nI i) a_mem a_marks a_visitCount a_inQueue a_outQueue a_blockStart a_blockCount a_blockRecent a_links a_entry cv a_opKind a_opMode a_opArg := by
  intro d
  induction d with
  | zero =>
    intro i hi n hn cv K
    obtain ⟨n, rfl⟩ : ∃ m, n = m + 1 := ⟨n - 1, by omega⟩
    have hin : vp_in (nI s) 8 := vp_in_nI hs (by decide)
    have ec : (nI s).toNatClampNeg = s := nI_clamp (by omega)
    refine br_t (nI_le (by omega) (by omega)) ?_
    refine And.intro (vp_in_nI hst2 (by decide)) ?_
    refine nm_r (e' := upd a_entry st (-1)) (by rw [nI_clamp (by omega)]) ?_
    refine And.intro hin (nm_r (e' := upd a_blockStart s (-1)) (by rw [ec]) ?_)
    refine And.intro hin (nm_r (e' := upd a_blockCount s 0) (by rw [ec]) ?_)
    refine And.intro hin (nm_r (e' := upd a_blockRecent s (vp_nar .boolean 0)) (by rw [ec]) ?_)
    refine And.intro (by rw [ab_x2]; exact vp_in_nI (by omega) (by decide)) (nm_r (e' := upd a_links (s * 2) (-1)) (by rw [ab_x2, nI_clamp (by omega)]) ?_)
    refine And.intro (by rw [ab_x21]; exact vp_in_nI (by omega) (by decide)) (nm_r (e' := upd (upd a_links (s * 2) (-1)) (s * 2 + 1) (-1)) (by rw [ab_x21, nI_clamp (by omega)]) ?_)
    refine K cv ?_
    intro a
    rw [if_neg (by omega)]
  | succ d ih =>
    intro i hi n hn cv K
    obtain ⟨n, rfl⟩ : ∃ m, n = m + 1 := ⟨n - 1, by omega⟩
    have hin : vp_in (nI st + nI i) 256 := by rw [nI_add]; exact vp_in_nI (by omega) (by decide)
    have ec : (nI st + nI i).toNatClampNeg = st + i := by rw [nI_add]; exact nI_clamp (by omega)
    refine br_f (nI_ge (by omega) (by omega)) ?_
    refine And.intro hin ?_
    refine And.intro hin ?_
    refine nm_r (e' := upd cv (st + i) (cv (st + i) - 1)) (by rw [ec]) ?_
    refine nm_r (e' := nI (i + 1)) (nI_1 i) ?_
    refine ih (i + 1) (by omega) n (by omega) _ ?_
    intro cv' h
    refine K cv' ?_
    intro a
    rw [h a]
    by_cases q : a = st + i
    · subst q
      rw [if_neg (by omega), if_pos (by omega), pk_us]
    · rw [pk_un q]
      by_cases q2 : st + i ≤ a ∧ a < st + ct
      · rw [if_pos q2, if_pos (by omega)]
      · rw [if_neg q2, if_neg (by omega)]
theorem xd_drop {post : SX → Prop} {sz s st ct : Nat} {g : Nat → Option (Nat × Nat)} {mem mk : Nat → Int32} (hz : sz ≤ 256) (C : ca_CI sz g mem mk a_blockStart a_blockCount a_links a_entry a_cover a_opKind a_opMode a_opArg) (hs : s < 8) (hg : g s = some (st, ct))
    (K : ∀ bs bc br lk en cv : Nat → Int32, ca_CI sz (ca_del g s) mem mk bs bc lk en cv a_opKind a_opMode a_opArg → (∀ a, en a = a_entry a ∨ en a = -1) →
      post (f_size, f_executedCount, f_regA, f_regX, f_regS, f_pc, f_flagBits, f_znPending, f_znResult, f_cvKind, f_cvLeft, f_cvRight, f_cvWide, f_inHead, f_inSize, f_outHead, f_outSize, f_lastCode, f_lastDetail, f_cacheLimit, f_lengthLimit, f_hand, if f_running = nI s then -1 else f_running, if f_linkFrom = nI s then -1 else f_linkFrom, f_exitKind, f_controlDone, f_trapCode, f_trapDetail, a_mem, a_marks, a_visitCount, a_inQueue, a_outQueue, bs, bc, br, lk, en, cv, a_opKind, a_opMode, a_opArg)) :
    wpX_dropBlock post (f_size, f_executedCount, f_regA, f_regX, f_regS, f_pc, f_flagBits, f_znPending, f_znResult, f_cvKind, f_cvLeft, f_cvRight, f_cvWide, f_inHead, f_inSize, f_outHead, f_outSize, f_lastCode, f_lastDetail, f_cacheLimit, f_lengthLimit, f_hand, f_running, f_linkFrom, f_exitKind, f_controlDone, f_trapCode, f_trapDetail, a_mem, a_marks, a_visitCount, a_inQueue, a_outQueue, a_blockStart, a_blockCount, a_blockRecent, a_links, a_entry, a_cover, a_opKind, a_opMode, a_opArg) (nI s) := by
  obtain ⟨b1, b2, b3, b4, b5, b6, b7, b8, b9⟩ := ca_some C hs hg
  have hin : vp_in (nI s) 8 := vp_in_nI hs (by decide)
  have ec : (nI s).toNatClampNeg = s := nI_clamp (by omega)
  refine And.intro hin (nm_r (e' := nI st) (by rw [ec]; exact b1) ?_)
  refine And.intro hin (nm_r (e' := nI ct) (by rw [ec]; exact b2) ?_)
  refine ⟨ct + 1, ?_⟩
  refine xd_17 hs (by omega) (by omega) ct 0 (by omega) (ct + 1) (by omega) a_cover ?_
  intro cv' hcv
  refine ⟨17, ?_⟩
  refine xd_93 16 0 (by omega) 17 (by omega) _ ?_
  intro lk' hlk
  refine K _ _ _ lk' _ cv' (ca_Ldrop C hz hs hg ?_ ?_) ?_
  · intro k hk
    obtain ⟨h1, h2⟩ := hlk k hk
    have h2 := h2 (Nat.zero_le k)
    by_cases q : k = s * 2 + 1
    · subst q
      rw [pk_us] at h1
      exact Or.inl (h1.elim id id)
    · rw [pk_un q] at h1
      by_cases q2 : k = s * 2
      · subst q2
        rw [pk_us] at h1
        exact Or.inl (h1.elim id id)
      · rw [pk_un q2] at h1
        rcases h1 with h1 | h1
        · exact Or.inl h1
        · rcases h2 with h2 | h2
          · exact Or.inr ⟨h1, h1 ▸ h2, q2, q⟩
          · exact Or.inl h2
  · intro a
    rw [hcv a]
    simp only [Nat.add_zero]
  · intro a
    by_cases q : a = st
    · rw [q, pk_us]; exact Or.inr rfl
    · rw [pk_un q]; exact Or.inl rfl
/-- what the cache's arrays become: the relation of the walks below -/
theorem xd_cov {post : SX → Prop} {sz a : Nat} {mem mk : Nat → Int32} (hz : sz ≤ 256) (ha : a < 256) : ∀ d s, s + d = 8 → ∀ n, d < n → ∀ (g : Nat → Option (Nat × Nat)) (run lf : Int32) (bs bc br lk en cv : Nat → Int32),
    ca_CI sz g mem mk bs bc lk en cv a_opKind a_opMode a_opArg → (∀ t, t < s → ca_nc g t a) →
    (∀ (g' : Nat → Option (Nat × Nat)) (run' lf' : Int32) (bs' bc' br' lk' en' cv' : Nat → Int32), ca_CI sz g' mem mk bs' bc' lk' en' cv' a_opKind a_opMode a_opArg → (∀ t, t < 8 → ca_nc g' t a) → ca_DR g run lf g' run' lf' →
      post (f_size, f_executedCount, f_regA, f_regX, f_regS, f_pc, f_flagBits, f_znPending, f_znResult, f_cvKind, f_cvLeft, f_cvRight, f_cvWide, f_inHead, f_inSize, f_outHead, f_outSize, f_lastCode, f_lastDetail, f_cacheLimit, f_lengthLimit, f_hand, run', lf', f_exitKind, f_controlDone, f_trapCode, f_trapDetail, a_mem, a_marks, a_visitCount, a_inQueue, a_outQueue, bs', bc', br', lk', en', cv', a_opKind, a_opMode, a_opArg)) →
    wX_dropCovering_12 post (nI a) n (nI s) f_size f_executedCount f_regA f_regX f_regS f_pc f_flagBits f_znPending f_znResult f_cvKind f_cvLeft f_cvRight f_cvWide f_inHead f_inSize f_outHead f_outSize f_lastCode f_lastDetail f_cacheLimit f_lengthLimit f_hand run lf f_exitKind f_controlDone f_trapCode f_trapDetail a_mem a_marks a_visitCount a_inQueue a_outQueue bs bc br lk en cv a_opKind a_opMode a_opArg := by
  intro d
  induction d with
  | zero =>
    intro s hs n hn g run lf bs bc br lk en cv C hnc K
    obtain ⟨n, rfl⟩ : ∃ m, n = m + 1 := ⟨n - 1, by omega⟩
    refine br_t (nI_le (a := 8) (by omega) (by omega)) ?_
    exact K g run lf bs bc br lk en cv C (fun t ht => hnc t (by omega)) ca_DRr
  | succ d ih =>
    intro s hs n hn g run lf bs bc br lk en cv C hnc K
    obtain ⟨n, rfl⟩ : ∃ m, n = m + 1 := ⟨n - 1, by omega⟩
    have hin : vp_in (nI s) 8 := vp_in_nI (by omega) (by decide)
    have ec : (nI s).toNatClampNeg = s := nI_clamp (by omega)
    refine br_f (nI_ge (b := 8) (by omega) (by decide)) ?_
    refine And.intro hin ?_
    cases hg : g s with
    | none =>
      refine nm_r (e' := -1) (by rw [ec]; exact ca_none C (by omega) hg) ?_
      refine br_t (by decide) ?_
      refine nm_r (e' := nI (s + 1)) (nI_1 s) ?_
      refine ih (s + 1) (by omega) n (by omega) g run lf bs bc br lk en cv C ?_ K
      intro t ht
      by_cases q : t = s
      · intro st ct h
        rw [q, hg] at h
        cases h
      · exact hnc t (by omega)
    | some p =>
      obtain ⟨st, ct⟩ := p
      obtain ⟨b1, b2, b3, b4, b5, b6, b7, b8, b9⟩ := ca_some C (by omega) hg
      have next : ¬ (st ≤ a ∧ a < st + ct) → ∀ t, t < s + 1 → ca_nc g t a := by
        intro h t ht
        by_cases q : t = s
        · intro st' ct' h'
          rw [q, hg] at h'
          injection h' with h'
          injection h' with h1 h2
          subst h1 h2
          exact h
        · exact hnc t (by omega)
      refine nm_r (e' := nI st) (by rw [ec]; exact b1) ?_
      refine br_f (nI_pos (by omega)) ?_
      refine pk_lt a st (fun l => ?_) (fun l => ?_)
      · refine nm_r (e' := nI (s + 1)) (nI_1 s) ?_
        exact ih (s + 1) (by omega) n (by omega) g run lf bs bc br lk en cv C (next (by omega)) K
      · refine And.intro hin ?_
        refine pk_le (st + ct) a (fun l2 => ?_) (fun l2 => ?_) (by rw [ec, b2, nI_add])
        · refine nm_r (e' := nI (s + 1)) (nI_1 s) ?_
          exact ih (s + 1) (by omega) n (by omega) g run lf bs bc br lk en cv C (next (by omega)) K
        · refine xd_drop hz C (by omega) hg ?_
          intro bs' bc' br' lk' en' cv' C' _
          refine nm_r (e' := nI (s + 1)) (nI_1 s) ?_
          refine ih (s + 1) (by omega) n (by omega) (ca_del g s) _ _ bs' bc' br' lk' en' cv' C' ?_ ?_
          · intro t ht
            by_cases q : t = s
            · intro st' ct' h'
              rw [q, ca_del_s] at h'
              cases h'
            · intro st' ct' h'
              rw [ca_del_n q] at h'
              exact hnc t (by omega) st' ct' h'
          · intro g2 run2 lf2 bs2 bc2 br2 lk2 en2 cv2 C2 N2 D2
            exact K g2 run2 lf2 bs2 bc2 br2 lk2 en2 cv2 C2 N2 (ca_DRt ca_DRd D2)
theorem xd_covering {post : SX → Prop} {sz a : Nat} {g : Nat → Option (Nat × Nat)} {mem mk : Nat → Int32} (hz : sz ≤ 256) (ha : a < 256) (C : ca_CI sz g mem mk a_blockStart a_blockCount a_links a_entry a_cover a_opKind a_opMode a_opArg)
    (K : ∀ (g' : Nat → Option (Nat × Nat)) (run' lf' : Int32) (bs' bc' br' lk' en' cv' : Nat → Int32), ca_CI sz g' mem mk bs' bc' lk' en' cv' a_opKind a_opMode a_opArg → (∀ t, t < 8 → ca_nc g' t a) → ca_DR g f_running f_linkFrom g' run' lf' →
      post (f_size, f_executedCount, f_regA, f_regX, f_regS, f_pc, f_flagBits, f_znPending, f_znResult, f_cvKind, f_cvLeft, f_cvRight, f_cvWide, f_inHead, f_inSize, f_outHead, f_outSize, f_lastCode, f_lastDetail, f_cacheLimit, f_lengthLimit, f_hand, run', lf', f_exitKind, f_controlDone, f_trapCode, f_trapDetail, a_mem, a_marks, a_visitCount, a_inQueue, a_outQueue, bs', bc', br', lk', en', cv', a_opKind, a_opMode, a_opArg)) :
    wpX_dropCovering post (f_size, f_executedCount, f_regA, f_regX, f_regS, f_pc, f_flagBits, f_znPending, f_znResult, f_cvKind, f_cvLeft, f_cvRight, f_cvWide, f_inHead, f_inSize, f_outHead, f_outSize, f_lastCode, f_lastDetail, f_cacheLimit, f_lengthLimit, f_hand, f_running, f_linkFrom, f_exitKind, f_controlDone, f_trapCode, f_trapDetail, a_mem, a_marks, a_visitCount, a_inQueue, a_outQueue, a_blockStart, a_blockCount, a_blockRecent, a_links, a_entry, a_cover, a_opKind, a_opMode, a_opArg) (nI a) := by
  refine And.intro (vp_in_nI ha (by decide)) ?_
  refine br_c (fun e => ?_) (fun _ => ?_)
  · rw [nI_clamp (by omega)] at e
    exact K g f_running f_linkFrom _ _ a_blockRecent _ _ _ C (ca_Lzero C ha e) ca_DRr
  · refine ⟨9, ?_⟩
    refine xd_cov hz ha 8 0 (by omega) 9 (by omega) g f_running f_linkFrom _ _ _ _ _ _ C (fun t ht => by omega) ?_
    exact K
theorem xd_store {post : SX → Prop} {sz a : Nat} {w : Int32} {g : Nat → Option (Nat × Nat)} (hz : sz ≤ 256) (ha : a < 256) (C : ca_CI sz g a_mem a_marks a_blockStart a_blockCount a_links a_entry a_cover a_opKind a_opMode a_opArg)
    (K : ∀ (g' : Nat → Option (Nat × Nat)) (run' lf' : Int32) (bs' bc' br' lk' en' cv' : Nat → Int32), ca_CI sz g' (upd a_mem a w) a_marks bs' bc' lk' en' cv' a_opKind a_opMode a_opArg → ca_DR g f_running f_linkFrom g' run' lf' →
      post (f_size, f_executedCount, f_regA, f_regX, f_regS, f_pc, f_flagBits, f_znPending, f_znResult, f_cvKind, f_cvLeft, f_cvRight, f_cvWide, f_inHead, f_inSize, f_outHead, f_outSize, f_lastCode, f_lastDetail, f_cacheLimit, f_lengthLimit, f_hand, run', lf', f_exitKind, f_controlDone, f_trapCode, f_trapDetail, upd a_mem a w, a_marks, a_visitCount, a_inQueue, a_outQueue, bs', bc', br', lk', en', cv', a_opKind, a_opMode, a_opArg)) :
    wpX_store post (f_size, f_executedCount, f_regA, f_regX, f_regS, f_pc, f_flagBits, f_znPending, f_znResult, f_cvKind, f_cvLeft, f_cvRight, f_cvWide, f_inHead, f_inSize, f_outHead, f_outSize, f_lastCode, f_lastDetail, f_cacheLimit, f_lengthLimit, f_hand, f_running, f_linkFrom, f_exitKind, f_controlDone, f_trapCode, f_trapDetail, a_mem, a_marks, a_visitCount, a_inQueue, a_outQueue, a_blockStart, a_blockCount, a_blockRecent, a_links, a_entry, a_cover, a_opKind, a_opMode, a_opArg) (nI a) w := by
  have hin : vp_in (nI a) 256 := vp_in_nI ha (by decide)
  have ec : (nI a).toNatClampNeg = a := nI_clamp (by omega)
  refine And.intro hin ?_
  refine br_c (fun e => ?_) (fun _ => ?_)
  · rw [ec] at e
    have q : upd a_mem a w = a_mem := ab_upid e
    rw [q] at K
    exact K g f_running f_linkFrom _ _ a_blockRecent _ _ _ C ca_DRr
  · refine And.intro hin (nm_r (e' := upd a_mem a w) (by rw [ec]) ?_)
    refine xd_covering hz ha C ?_
    intro g' run' lf' bs' bc' br' lk' en' cv' C' N D
    exact K g' run' lf' bs' bc' br' lk' en' cv' (ca_Lmem C' N) D
end XD
end
section
/-! X: decode -/
theorem dc_o {w : Nat} (h : w < 65536) : nI w >>> ((8 : Int32) &&& 31) = nI (w / 256) := pk_shrN (by omega) _ 8 (by decide)
theorem dc_n {w : Nat} (h : w < 65536) : nI w &&& 255 = nI (w % 256) := pk_andN (by omega) 8 (by decide)
section XE
variable {f_size f_executedCount f_regA f_regX f_regS f_pc f_flagBits f_znPending f_znResult f_cvKind f_cvLeft f_cvRight f_cvWide f_inHead f_inSize f_outHead f_outSize f_lastCode f_lastDetail f_cacheLimit f_lengthLimit f_hand f_running f_linkFrom f_exitKind f_controlDone f_trapCode f_trapDetail : Int32} {a_mem a_marks a_visitCount a_inQueue a_outQueue a_blockStart a_blockCount a_blockRecent a_links a_entry a_cover a_opKind a_opMode a_opArg : Nat → Int32}
theorem xe_emit {post : SX → Prop} {idx : Nat} {k m a : Int32} (hi : idx < 128) (h : post (f_size, f_executedCount, f_regA, f_regX, f_regS, f_pc, f_flagBits, f_znPending, f_znResult, f_cvKind, f_cvLeft, f_cvRight, f_cvWide, f_inHead, f_inSize, f_outHead, f_outSize, f_lastCode, f_lastDetail, f_cacheLimit, f_lengthLimit, f_hand, f_running, f_linkFrom, f_exitKind, f_controlDone, f_trapCode, f_trapDetail, a_mem, a_marks, a_visitCount, a_inQueue, a_outQueue, a_blockStart, a_blockCount, a_blockRecent, a_links, a_entry, a_cover, upd a_opKind idx k, upd a_opMode idx m, upd a_opArg idx a)) : wpX_emit post (f_size, f_executedCount, f_regA, f_regX, f_regS, f_pc, f_flagBits, f_znPending, f_znResult, f_cvKind, f_cvLeft, f_cvRight, f_cvWide, f_inHead, f_inSize, f_outHead, f_outSize, f_lastCode, f_lastDetail, f_cacheLimit, f_lengthLimit, f_hand, f_running, f_linkFrom, f_exitKind, f_controlDone, f_trapCode, f_trapDetail, a_mem, a_marks, a_visitCount, a_inQueue, a_outQueue, a_blockStart, a_blockCount, a_blockRecent, a_links, a_entry, a_cover, a_opKind, a_opMode, a_opArg) (nI idx) k m a := by
  have hin : vp_in (nI idx) 128 := vp_in_nI hi (by decide)
  have ec : (nI idx).toNatClampNeg = idx := nI_clamp (by omega)
  refine And.intro hin (nm_r (e' := upd a_opKind idx k) (by rw [ec]) ?_)
  refine And.intro hin (nm_r (e' := upd a_opMode idx m) (by rw [ec]) ?_)
  refine And.intro hin (nm_r (e' := upd a_opArg idx a) (by rw [ec]) ?_)
  exact h
theorem xe_fix {post : SX → Prop} {idx sz n : Nat} {k : Int32} (hi : idx < 128) (hz : sz ≤ 256) (hn : n < 256)
    (h1 : n < sz → post (nI sz, f_executedCount, f_regA, f_regX, f_regS, f_pc, f_flagBits, f_znPending, f_znResult, f_cvKind, f_cvLeft, f_cvRight, f_cvWide, f_inHead, f_inSize, f_outHead, f_outSize, f_lastCode, f_lastDetail, f_cacheLimit, f_lengthLimit, f_hand, f_running, f_linkFrom, f_exitKind, f_controlDone, f_trapCode, f_trapDetail, a_mem, a_marks, a_visitCount, a_inQueue, a_outQueue, a_blockStart, a_blockCount, a_blockRecent, a_links, a_entry, a_cover, upd a_opKind idx k, upd a_opMode idx 1, upd a_opArg idx (nI n)))
    (h2 : sz ≤ n → post (nI sz, f_executedCount, f_regA, f_regX, f_regS, f_pc, f_flagBits, f_znPending, f_znResult, f_cvKind, f_cvLeft, f_cvRight, f_cvWide, f_inHead, f_inSize, f_outHead, f_outSize, f_lastCode, f_lastDetail, f_cacheLimit, f_lengthLimit, f_hand, f_running, f_linkFrom, f_exitKind, f_controlDone, f_trapCode, f_trapDetail, a_mem, a_marks, a_visitCount, a_inQueue, a_outQueue, a_blockStart, a_blockCount, a_blockRecent, a_links, a_entry, a_cover, upd a_opKind idx 209, upd a_opMode idx 0, upd a_opArg idx (nI n))) : wpX_emitFixed post (nI sz, f_executedCount, f_regA, f_regX, f_regS, f_pc, f_flagBits, f_znPending, f_znResult, f_cvKind, f_cvLeft, f_cvRight, f_cvWide, f_inHead, f_inSize, f_outHead, f_outSize, f_lastCode, f_lastDetail, f_cacheLimit, f_lengthLimit, f_hand, f_running, f_linkFrom, f_exitKind, f_controlDone, f_trapCode, f_trapDetail, a_mem, a_marks, a_visitCount, a_inQueue, a_outQueue, a_blockStart, a_blockCount, a_blockRecent, a_links, a_entry, a_cover, a_opKind, a_opMode, a_opArg) (nI idx) k (nI n) := by
  refine pk_lt n sz (fun l => ?_) (fun l => ?_)
  · refine xe_emit hi ?_
    exact h1 l
  · refine xe_emit hi ?_
    exact h2 l
theorem xe_ctl {post : SX → Prop} {idx o n : Nat} (hi : idx < 128) (ho : o < 256)
    (h : post (f_size, f_executedCount, f_regA, f_regX, f_regS, f_pc, f_flagBits, f_znPending, f_znResult, f_cvKind, f_cvLeft, f_cvRight, f_cvWide, f_inHead, f_inSize, f_outHead, f_outSize, f_lastCode, f_lastDetail, f_cacheLimit, f_lengthLimit, f_hand, f_running, f_linkFrom, f_exitKind, f_controlDone, f_trapCode, f_trapDetail, a_mem, a_marks, a_visitCount, a_inQueue, a_outQueue, a_blockStart, a_blockCount, a_blockRecent, a_links, a_entry, a_cover, upd a_opKind idx (nI o), upd a_opMode idx (nI (if o = 18 then 4 else if o = 19 then 5 else 0)), upd a_opArg idx (nI n))) : wpX_decodeControl post (f_size, f_executedCount, f_regA, f_regX, f_regS, f_pc, f_flagBits, f_znPending, f_znResult, f_cvKind, f_cvLeft, f_cvRight, f_cvWide, f_inHead, f_inSize, f_outHead, f_outSize, f_lastCode, f_lastDetail, f_cacheLimit, f_lengthLimit, f_hand, f_running, f_linkFrom, f_exitKind, f_controlDone, f_trapCode, f_trapDetail, a_mem, a_marks, a_visitCount, a_inQueue, a_outQueue, a_blockStart, a_blockCount, a_blockRecent, a_links, a_entry, a_cover, a_opKind, a_opMode, a_opArg) (nI idx) (nI o) (nI n) := by
  refine pk_eq o 18 (fun l => ?_) (fun l => ?_)
  · rw [if_pos l] at h
    refine xe_emit hi ?_
    exact h
  · rw [if_neg l] at h
    refine pk_eq o 19 (fun l => ?_) (fun l => ?_)
    · rw [if_pos l] at h
      refine xe_emit hi ?_
      exact h
    · rw [if_neg l] at h
      refine xe_emit hi ?_
      exact h
theorem xe_sto {post : SX → Prop} {idx o n sz : Nat} (hi : idx < 128) (hz : sz ≤ 256) (hn : n < 256) (h32 : 32 ≤ o) (h40 : o ≤ 40)
    (h : ∀ k m a : Nat, (k, m, a) = (if o = 33 then (32, 2, n) else if o = 36 then (35, 2, n) else if o = 37 ∨ o = 39 then (o, 4, n) else if o = 38 ∨ o = 40 then (o, 5, n) else if n < sz then (o, 1, n) else (209, 0, n)) →
      post (nI sz, f_executedCount, f_regA, f_regX, f_regS, f_pc, f_flagBits, f_znPending, f_znResult, f_cvKind, f_cvLeft, f_cvRight, f_cvWide, f_inHead, f_inSize, f_outHead, f_outSize, f_lastCode, f_lastDetail, f_cacheLimit, f_lengthLimit, f_hand, f_running, f_linkFrom, f_exitKind, f_controlDone, f_trapCode, f_trapDetail, a_mem, a_marks, a_visitCount, a_inQueue, a_outQueue, a_blockStart, a_blockCount, a_blockRecent, a_links, a_entry, a_cover, upd a_opKind idx (nI k), upd a_opMode idx (nI m), upd a_opArg idx (nI a))) : wpX_decodeStore post (nI sz, f_executedCount, f_regA, f_regX, f_regS, f_pc, f_flagBits, f_znPending, f_znResult, f_cvKind, f_cvLeft, f_cvRight, f_cvWide, f_inHead, f_inSize, f_outHead, f_outSize, f_lastCode, f_lastDetail, f_cacheLimit, f_lengthLimit, f_hand, f_running, f_linkFrom, f_exitKind, f_controlDone, f_trapCode, f_trapDetail, a_mem, a_marks, a_visitCount, a_inQueue, a_outQueue, a_blockStart, a_blockCount, a_blockRecent, a_links, a_entry, a_cover, a_opKind, a_opMode, a_opArg) (nI idx) (nI o) (nI n) := by
  have F : (o = 32 ∨ o = 34 ∨ o = 35) → wX_decodeStore_94 post (nI idx) (nI o) (nI n) (nI sz) f_executedCount f_regA f_regX f_regS f_pc f_flagBits f_znPending f_znResult f_cvKind f_cvLeft f_cvRight f_cvWide f_inHead f_inSize f_outHead f_outSize f_lastCode f_lastDetail f_cacheLimit f_lengthLimit f_hand f_running f_linkFrom f_exitKind f_controlDone f_trapCode f_trapDetail a_mem a_marks a_visitCount a_inQueue a_outQueue a_blockStart a_blockCount a_blockRecent a_links a_entry a_cover a_opKind a_opMode a_opArg := by
    intro q
    refine xe_fix hi hz hn (fun l => ?_) (fun l => ?_)
    · refine h o 1 n ?_
      rw [if_neg (by omega), if_neg (by omega), if_neg (by omega), if_neg (by omega), if_pos l]
    · refine h 209 0 n ?_
      rw [if_neg (by omega), if_neg (by omega), if_neg (by omega), if_neg (by omega), if_neg (by omega)]
  refine pk_lt o 33 (fun l => F (by omega)) (fun l => ?_)
  refine pk_lt 40 o (fun l2 => by omega) (fun l2 => ?_)
  refine pk_eq o 33 (fun q => ?_) (fun q33 => ?_)
  · refine xe_emit hi ?_
    exact h 32 2 n (by rw [if_pos q])
  refine pk_eq o 34 (fun q => F (by omega)) (fun q34 => ?_)
  refine pk_eq o 35 (fun q => F (by omega)) (fun q35 => ?_)
  refine pk_eq o 36 (fun q => ?_) (fun q36 => ?_)
  · refine xe_emit hi ?_
    exact h 35 2 n (by rw [if_neg (by omega), if_pos q])
  refine pk_eq o 37 (fun q => ?_) (fun q37 => ?_)
  · refine xe_emit hi ?_
    exact h o 4 n (by rw [if_neg (by omega), if_neg (by omega), if_pos (by omega)])
  refine pk_eq o 38 (fun q => ?_) (fun q38 => ?_)
  · refine xe_emit hi ?_
    exact h o 5 n (by rw [if_neg (by omega), if_neg (by omega), if_neg (by omega), if_pos (by omega)])
  refine pk_eq o 39 (fun q => ?_) (fun q39 => ?_)
  · refine xe_emit hi ?_
    exact h o 4 n (by rw [if_neg (by omega), if_neg (by omega), if_pos (by omega)])
  refine pk_eq o 40 (fun q => ?_) (fun q40 => ?_)
  · refine xe_emit hi ?_
    exact h o 5 n (by rw [if_neg (by omega), if_neg (by omega), if_neg (by omega), if_pos (by omega)])
  · trivial
theorem xe_opr {post : SX → Prop} {idx o n sz : Nat} (hi : idx < 128) (hz : sz ≤ 256) (hn : n < 256) (h64 : 64 ≤ o) (h107 : o ≤ 107)
    (h : ∀ k m a : Nat, (k, m, a) = (if o % 4 = 1 then (if n < sz then (64 + (o - 64) / 4, 1, n) else (209, 0, n)) else if (o - 64) / 4 = 9 ∧ o % 4 = 0 ∧ n = 0 then (210, 0, 0) else (64 + (o - 64) / 4, o % 4, n)) →
      post (nI sz, f_executedCount, f_regA, f_regX, f_regS, f_pc, f_flagBits, f_znPending, f_znResult, f_cvKind, f_cvLeft, f_cvRight, f_cvWide, f_inHead, f_inSize, f_outHead, f_outSize, f_lastCode, f_lastDetail, f_cacheLimit, f_lengthLimit, f_hand, f_running, f_linkFrom, f_exitKind, f_controlDone, f_trapCode, f_trapDetail, a_mem, a_marks, a_visitCount, a_inQueue, a_outQueue, a_blockStart, a_blockCount, a_blockRecent, a_links, a_entry, a_cover, upd a_opKind idx (nI k), upd a_opMode idx (nI m), upd a_opArg idx (nI a))) : wpX_decodeOperation post (nI sz, f_executedCount, f_regA, f_regX, f_regS, f_pc, f_flagBits, f_znPending, f_znResult, f_cvKind, f_cvLeft, f_cvRight, f_cvWide, f_inHead, f_inSize, f_outHead, f_outSize, f_lastCode, f_lastDetail, f_cacheLimit, f_lengthLimit, f_hand, f_running, f_linkFrom, f_exitKind, f_controlDone, f_trapCode, f_trapDetail, a_mem, a_marks, a_visitCount, a_inQueue, a_outQueue, a_blockStart, a_blockCount, a_blockRecent, a_links, a_entry, a_cover, a_opKind, a_opMode, a_opArg) (nI idx) (nI o - 64) (nI n) := by
  have e0 : nI o - 64 = nI (o - 64) := pk_sub (b := 64) h64
  have e1 : (nI o - 64) >>> ((2 : Int32) &&& 31) = nI ((o - 64) / 4) := by
    rw [e0]; exact pk_shrN (by omega) _ 2 (by decide)
  have e2 : (nI o - 64) &&& 3 = nI (o % 4) := by
    rw [e0, pk_andN (by omega) (m := 3) 2 (by decide)]
    exact congrArg nI (by omega)
  refine nm_r e1 (nm_r e2 ?_)
  have G : ¬ o % 4 = 1 → ¬ ((o - 64) / 4 = 9 ∧ o % 4 = 0 ∧ n = 0) → wX_decodeOperation_59 post (nI idx) (nI n) (nI ((o - 64) / 4)) (nI (o % 4)) (nI sz) f_executedCount f_regA f_regX f_regS f_pc f_flagBits f_znPending f_znResult f_cvKind f_cvLeft f_cvRight f_cvWide f_inHead f_inSize f_outHead f_outSize f_lastCode f_lastDetail f_cacheLimit f_lengthLimit f_hand f_running f_linkFrom f_exitKind f_controlDone f_trapCode f_trapDetail a_mem a_marks a_visitCount a_inQueue a_outQueue a_blockStart a_blockCount a_blockRecent a_links a_entry a_cover a_opKind a_opMode a_opArg := by
    intro q1 q2
    refine xe_emit hi ?_
    have e3 : (64 : Int32) + nI ((o - 64) / 4) = nI (64 + (o - 64) / 4) := nI_add 64 _
    rw [e3]
    exact h _ _ _ (by rw [if_neg q1, if_neg q2])
  refine pk_eq (o % 4) 1 (fun q1 => ?_) (fun q1 => ?_)
  · have e3 : (64 : Int32) + nI ((o - 64) / 4) = nI (64 + (o - 64) / 4) := nI_add 64 _
    rw [e3]
    refine xe_fix hi hz hn (fun l => ?_) (fun l => ?_)
    · exact h _ 1 _ (by rw [if_pos q1, if_pos l])
    · exact h 209 0 _ (by rw [if_pos q1, if_neg (by omega)])
  · refine pk_eq ((o - 64) / 4) 9 (fun q2 => ?_) (fun q2 => G q1 (fun q => q2 q.1))
    refine pk_eq (o % 4) 0 (fun q3 => ?_) (fun q3 => G q1 (fun q => q3 q.2.1))
    refine pk_eq n 0 (fun q4 => ?_) (fun q4 => G q1 (fun q => q4 q.2.2))
    refine xe_emit hi ?_
    exact h 210 0 0 (by rw [if_neg q1, if_pos ⟨q2, q3, q4⟩])
theorem xe_decode {post : SX → Prop} {idx w sz : Nat} (hi : idx < 128) (hz : sz ≤ 256) (hw : w < 65536)
    (h : post (nI sz, f_executedCount, f_regA, f_regX, f_regS, f_pc, f_flagBits, f_znPending, f_znResult, f_cvKind, f_cvLeft, f_cvRight, f_cvWide, f_inHead, f_inSize, f_outHead, f_outSize, f_lastCode, f_lastDetail, f_cacheLimit, f_lengthLimit, f_hand, f_running, f_linkFrom, f_exitKind, f_controlDone, f_trapCode, f_trapDetail, a_mem, a_marks, a_visitCount, a_inQueue, a_outQueue, a_blockStart, a_blockCount, a_blockRecent, a_links, a_entry, a_cover, upd a_opKind idx (nI (dc_D sz w).1), upd a_opMode idx (nI (dc_D sz w).2.1), upd a_opArg idx (nI (dc_D sz w).2.2))) : wpX_decode post (nI sz, f_executedCount, f_regA, f_regX, f_regS, f_pc, f_flagBits, f_znPending, f_znResult, f_cvKind, f_cvLeft, f_cvRight, f_cvWide, f_inHead, f_inSize, f_outHead, f_outSize, f_lastCode, f_lastDetail, f_cacheLimit, f_lengthLimit, f_hand, f_running, f_linkFrom, f_exitKind, f_controlDone, f_trapCode, f_trapDetail, a_mem, a_marks, a_visitCount, a_inQueue, a_outQueue, a_blockStart, a_blockCount, a_blockRecent, a_links, a_entry, a_cover, a_opKind, a_opMode, a_opArg) (nI idx) (nI w) := by
  have H : ∀ k m a : Nat, (k, m, a) = dc_D sz w → post (nI sz, f_executedCount, f_regA, f_regX, f_regS, f_pc, f_flagBits, f_znPending, f_znResult, f_cvKind, f_cvLeft, f_cvRight, f_cvWide, f_inHead, f_inSize, f_outHead, f_outSize, f_lastCode, f_lastDetail, f_cacheLimit, f_lengthLimit, f_hand, f_running, f_linkFrom, f_exitKind, f_controlDone, f_trapCode, f_trapDetail, a_mem, a_marks, a_visitCount, a_inQueue, a_outQueue, a_blockStart, a_blockCount, a_blockRecent, a_links, a_entry, a_cover, upd a_opKind idx (nI k), upd a_opMode idx (nI m), upd a_opArg idx (nI a)) := by
    intro k m a e
    rw [← e] at h
    exact h
  have ho : w / 256 < 256 := by omega
  have hn : w % 256 < 256 := by omega
  unfold dc_D at H
  refine nm_r (dc_o hw) (nm_r (dc_n hw) ?_)
  generalize w / 256 = o at H ho ⊢
  generalize w % 256 = n at H hn ⊢
  have I : (¬ o = 0) → (¬ o ≤ 10) → ¬ (16 ≤ o ∧ o ≤ 29) → ¬ (32 ≤ o ∧ o ≤ 40) → ¬ (64 ≤ o ∧ o ≤ 107) → wX_decode_119 post (nI idx) (nI w) (nI sz) f_executedCount f_regA f_regX f_regS f_pc f_flagBits f_znPending f_znResult f_cvKind f_cvLeft f_cvRight f_cvWide f_inHead f_inSize f_outHead f_outSize f_lastCode f_lastDetail f_cacheLimit f_lengthLimit f_hand f_running f_linkFrom f_exitKind f_controlDone f_trapCode f_trapDetail a_mem a_marks a_visitCount a_inQueue a_outQueue a_blockStart a_blockCount a_blockRecent a_links a_entry a_cover a_opKind a_opMode a_opArg := by
    intro q1 q2 q3 q4 q5
    refine xe_emit hi ?_
    exact H 208 0 w (by rw [if_neg q1, if_neg q2, if_neg q3, if_neg q4, if_neg q5])
  have J : (¬ o = 0) → (¬ o ≤ 10) → ¬ (16 ≤ o ∧ o ≤ 29) → ¬ (32 ≤ o ∧ o ≤ 40) → wX_decode_93 post (nI idx) (nI w) (nI o) (nI n) (nI sz) f_executedCount f_regA f_regX f_regS f_pc f_flagBits f_znPending f_znResult f_cvKind f_cvLeft f_cvRight f_cvWide f_inHead f_inSize f_outHead f_outSize f_lastCode f_lastDetail f_cacheLimit f_lengthLimit f_hand f_running f_linkFrom f_exitKind f_controlDone f_trapCode f_trapDetail a_mem a_marks a_visitCount a_inQueue a_outQueue a_blockStart a_blockCount a_blockRecent a_links a_entry a_cover a_opKind a_opMode a_opArg := by
    intro q1 q2 q3 q4
    refine pk_lt o 64 (fun l => I q1 q2 q3 q4 (by omega)) (fun l => ?_)
    refine pk_lt 107 o (fun l2 => I q1 q2 q3 q4 (by omega)) (fun l2 => ?_)
    refine xe_opr hi hz hn l l2 ?_
    intro k m a e
    exact H k m a (by rw [if_neg q1, if_neg q2, if_neg q3, if_neg q4, if_pos ⟨l, l2⟩]; exact e)
  have L : (¬ o = 0) → (¬ o ≤ 10) → ¬ (16 ≤ o ∧ o ≤ 29) → wX_decode_70 post (nI idx) (nI w) (nI o) (nI n) (nI sz) f_executedCount f_regA f_regX f_regS f_pc f_flagBits f_znPending f_znResult f_cvKind f_cvLeft f_cvRight f_cvWide f_inHead f_inSize f_outHead f_outSize f_lastCode f_lastDetail f_cacheLimit f_lengthLimit f_hand f_running f_linkFrom f_exitKind f_controlDone f_trapCode f_trapDetail a_mem a_marks a_visitCount a_inQueue a_outQueue a_blockStart a_blockCount a_blockRecent a_links a_entry a_cover a_opKind a_opMode a_opArg := by
    intro q1 q2 q3
    refine pk_lt o 32 (fun l => J q1 q2 q3 (by omega)) (fun l => ?_)
    refine pk_lt 40 o (fun l2 => J q1 q2 q3 (by omega)) (fun l2 => ?_)
    refine xe_sto hi hz hn l l2 ?_
    intro k m a e
    exact H k m a (by rw [if_neg q1, if_neg q2, if_neg q3, if_pos ⟨l, l2⟩]; exact e)
  refine pk_eq o 0 (fun q => ?_) (fun q0 => ?_)
  · refine xe_emit hi ?_
    exact H 202 0 0 (by rw [if_pos q])
  refine pk_lt 10 o (fun l => ?_) (fun l => ?_)
  · refine pk_lt o 16 (fun l2 => L q0 (by omega) (by omega)) (fun l2 => ?_)
    refine pk_lt 29 o (fun l3 => L q0 (by omega) (by omega)) (fun l3 => ?_)
    refine xe_ctl hi ho ?_
    exact H o (if o = 18 then 4 else if o = 19 then 5 else 0) n (by rw [if_neg q0, if_neg (show ¬ o ≤ 10 by omega), if_pos (show 16 ≤ o ∧ o ≤ 29 from ⟨l2, l3⟩)])
  · refine xe_emit hi ?_
    exact H _ _ _ (by rw [if_neg q0, if_pos l])
end XE
end
section
/-! X: chooseSlot, translate, findBlock -/
def tr_I (sz s st : Nat) (mem mk cv0 oK0 oM0 oA0 : Nat → Int32) (i : Nat) (cv oK oM oA : Nat → Int32) : Prop :=
  st + i ≤ sz ∧ i ≤ 16 ∧
  (∀ j, j < i → dc_ok sz (mem (st + j)) (oK (s * 16 + j)) (oM (s * 16 + j)) (oA (s * 16 + j))) ∧
  (∀ k, (k < s * 16 ∨ s * 16 + 16 ≤ k) → oK k = oK0 k ∧ oM k = oM0 k ∧ oA k = oA0 k) ∧
  (∀ a, cv a = if st ≤ a ∧ a < st + i then cv0 a + 1 else cv0 a) ∧
  (∀ j, 0 < j → j < i → mk (st + j) = 0)
theorem ca_Lput {sz s st ct : Nat} {g : Nat → Option (Nat × Nat)} {mem mk bs bc lk en cv0 oK0 oM0 oA0 cv oK oM oA : Nat → Int32} (C : ca_CI sz g mem mk bs bc lk en cv0 oK0 oM0 oA0) (hz : sz ≤ 256) (hs : s < 8) (hg : g s = none) (he : en st = -1) (h1 : 1 ≤ ct)
    (T : tr_I sz s st mem mk cv0 oK0 oM0 oA0 ct cv oK oM oA) (G : ∀ j, j + 1 < ct → dc_go (oK (s * 16 + j))) :
    ca_CI sz (ca_put g s st ct) mem mk (upd bs s (nI st)) (upd bc s (nI ct)) (upd (upd lk (s * 2) (-1)) (s * 2 + 1) (-1)) (upd en st (nI s)) cv oK oM oA := by
  obtain ⟨t1, t2, t3, t4, t5, t6⟩ := T
  refine ⟨?_, ?_, ?_, ?_, ?_⟩
  · intro t ht h
    have e : t ≠ s := by
      intro e
      rw [e, ca_put_s] at h
      cases h
    rw [ca_put_n e] at h
    rw [pk_un e]
    exact C.1 t ht h
  · intro t st' ct' ht h
    by_cases e : t = s
    · subst e
      rw [ca_put_s] at h
      injection h with h
      injection h with h2 h3
      subst h2 h3
      exact ⟨pk_us, pk_us, h1, t2, t1, pk_us, t3, t6, G⟩
    · rw [ca_put_n e] at h
      obtain ⟨b1, b2, b3, b4, b5, b6, b7, b8, b9⟩ := ca_some C ht h
      have e2 : st' ≠ st := by
        intro e2
        rw [e2, he] at b6
        exact ab_ne1' (by omega) b6
      have o : ∀ i, i < ct' → (t * 16 + i < s * 16 ∨ s * 16 + 16 ≤ t * 16 + i) := by
        intro i hi
        omega
      refine ⟨?_, ?_, b3, b4, b5, ?_, ?_, b8, ?_⟩
      · rw [pk_un e]; exact b1
      · rw [pk_un e]; exact b2
      · rw [pk_un e2]; exact b6
      · intro i hi
        obtain ⟨o1, o2, o3⟩ := t4 (t * 16 + i) (o i hi)
        rw [o1, o2, o3]
        exact b7 i hi
      · intro i hi
        obtain ⟨o1, o2, o3⟩ := t4 (t * 16 + i) (o i (by omega))
        rw [o1]
        exact b9 i hi
  · intro a ha
    by_cases e : a = st
    · subst e
      rw [pk_us]
      exact Or.inr ⟨s, ct, hs, rfl, ca_put_s⟩
    · rw [pk_un e]
      rcases C.2.2.1 a ha with h | ⟨t, ct', ht, h2, h3⟩
      · exact Or.inl h
      · refine Or.inr ⟨t, ct', ht, h2, ?_⟩
        rw [ca_put_n]
        · exact h3
        · intro e2
          rw [e2, hg] at h3
          cases h3
  · intro a ha
    have h2 := ca_cnt_c (g := g) (g' := ca_put g s st ct) (s := s) (a := a) (fun j hj => ca_put_n hj) 8 hs
    rw [ca_cov_s (g := ca_put g s st ct) ca_put_s, ca_cov_n hg] at h2
    rw [t5 a]
    have h3 := C.2.2.2.1 a ha
    by_cases e : st ≤ a ∧ a < st + ct
    · rw [if_pos e] at h2
      rw [if_pos e, h3, nI_1]
      have e3 : ca_cnt (ca_put g s st ct) a 8 = ca_cnt g a 8 + 1 := by omega
      rw [e3]
    · rw [if_neg e] at h2
      rw [if_neg e, h3]
      have e3 : ca_cnt (ca_put g s st ct) a 8 = ca_cnt g a 8 := by omega
      rw [e3]
  · intro t e ht he'
    by_cases q : t = s
    · subst q
      refine Or.inl ?_
      by_cases q2 : e = 0
      · subst q2
        rw [pk_un (by omega)]
        exact pk_us
      · have q3 : e = 1 := by omega
        subst q3
        exact pk_us
    · rw [pk_un (by omega), pk_un (by omega)]
      rcases C.2.2.2.2 t e ht he' with h | ⟨t', st', ct', tg, ct2, q1, q2, q3, q4, q5⟩
      · exact Or.inl h
      · have hts : t' ≠ s := by
          intro e2
          rw [e2, hg] at q4
          cases q4
        refine Or.inr ⟨t', st', ct', tg, ct2, q1, q2, (ca_put_n q).trans q3, (ca_put_n hts).trans q4, ?_⟩
        rw [q5]
        unfold ca_tg
        obtain ⟨b1, b2, b3, b4, b5, b6, b7, b8, b9⟩ := ca_some C ht q3
        rw [(t4 (t * 16 + (ct' - 1)) (by omega)).2.2]
section XT
variable {f_size f_executedCount f_regA f_regX f_regS f_pc f_flagBits f_znPending f_znResult f_cvKind f_cvLeft f_cvRight f_cvWide f_inHead f_inSize f_outHead f_outSize f_lastCode f_lastDetail f_cacheLimit f_lengthLimit f_hand f_running f_linkFrom f_exitKind f_controlDone f_trapCode f_trapDetail : Int32} {a_mem a_marks a_visitCount a_inQueue a_outQueue a_blockStart a_blockCount a_blockRecent a_links a_entry a_cover a_opKind a_opMode a_opArg : Nat → Int32}
theorem xt_59 {post : Int32 → SX → Prop} {J : Int32 → Int32 → (Nat → Int32) → (Nat → Int32) → (Nat → Int32) → (Nat → Int32) → (Nat → Int32) → (Nat → Int32) → (Nat → Int32) → (Nat → Int32) → (Nat → Int32) → (Nat → Int32) → (Nat → Int32) → (Nat → Int32) → (Nat → Int32) → (Nat → Int32) → Prop} {i z : Nat} {z0 : Int32} (hz0 : z0 = nI z) (hz : z < 8)
    (h1 : post (nI z) (f_size, f_executedCount, f_regA, f_regX, f_regS, f_pc, f_flagBits, f_znPending, f_znResult, f_cvKind, f_cvLeft, f_cvRight, f_cvWide, f_inHead, f_inSize, f_outHead, f_outSize, f_lastCode, f_lastDetail, f_cacheLimit, f_lengthLimit, nI z, f_running, f_linkFrom, f_exitKind, f_controlDone, f_trapCode, f_trapDetail, a_mem, a_marks, a_visitCount, a_inQueue, a_outQueue, a_blockStart, a_blockCount, a_blockRecent, a_links, a_entry, a_cover, a_opKind, a_opMode, a_opArg)) (h2 : J (nI (i + 1)) (nI z) a_mem a_marks a_visitCount a_inQueue a_outQueue a_blockStart a_blockCount (upd a_blockRecent z (vp_nar .boolean 0)) a_links a_entry a_cover a_opKind a_opMode a_opArg) : wX_chooseSlot_59 post J (nI i) z0 f_size f_executedCount f_regA f_regX f_regS f_pc f_flagBits f_znPending f_znResult f_cvKind f_cvLeft f_cvRight f_cvWide f_inHead f_inSize f_outHead f_outSize f_lastCode f_lastDetail f_cacheLimit f_lengthLimit f_hand f_running f_linkFrom f_exitKind f_controlDone f_trapCode f_trapDetail a_mem a_marks a_visitCount a_inQueue a_outQueue a_blockStart a_blockCount a_blockRecent a_links a_entry a_cover a_opKind a_opMode a_opArg := by
  subst hz0
  have hin : vp_in (nI z) 8 := vp_in_nI hz (by decide)
  have ec : (nI z).toNatClampNeg = z := nI_clamp (by omega)
  refine And.intro hin ?_
  refine br_c (fun _ => h1) (fun _ => ?_)
  refine And.intro hin (nm_r (e' := upd a_blockRecent z (vp_nar .boolean 0)) (by rw [ec]) ?_)
  exact nm_r (e' := nI (i + 1)) (nI_1 i) h2
theorem xt_29 {post : Int32 → SX → Prop} {cl : Nat} (hc1 : 1 ≤ cl) (hc8 : cl ≤ 8) : ∀ d i, i + d = 16 → ∀ n, d < n → ∀ (hd : Nat) (br : Nat → Int32), hd < cl →
    (∀ (h : Nat) (br' : Nat → Int32), h < cl → post (nI h) (f_size, f_executedCount, f_regA, f_regX, f_regS, f_pc, f_flagBits, f_znPending, f_znResult, f_cvKind, f_cvLeft, f_cvRight, f_cvWide, f_inHead, f_inSize, f_outHead, f_outSize, f_lastCode, f_lastDetail, nI cl, f_lengthLimit, nI h, f_running, f_linkFrom, f_exitKind, f_controlDone, f_trapCode, f_trapDetail, a_mem, a_marks, a_visitCount, a_inQueue, a_outQueue, a_blockStart, a_blockCount, br', a_links, a_entry, a_cover, a_opKind, a_opMode, a_opArg)) →
    wX_chooseSlot_29 post f_size f_executedCount f_regA f_regX f_regS f_pc f_flagBits f_znPending f_znResult f_cvKind f_cvLeft f_cvRight f_cvWide f_inHead f_inSize f_outHead f_outSize f_lastCode f_lastDetail (nI cl) f_lengthLimit f_running f_linkFrom f_exitKind f_controlDone f_trapCode f_trapDetail n (nI i) (nI hd) a_mem a_marks a_visitCount a_inQueue a_outQueue a_blockStart a_blockCount br a_links a_entry a_cover a_opKind a_opMode a_opArg := by
  intro d
  induction d with
  | zero =>
    intro i hi n hn hd br hh K
    obtain ⟨n, rfl⟩ : ∃ m, n = m + 1 := ⟨n - 1, by omega⟩
    refine br_t (nI_le (a := 16) (by omega) (by omega)) ?_
    exact K hd br hh
  | succ d ih =>
    intro i hi n hn hd br hh K
    obtain ⟨n, rfl⟩ : ∃ m, n = m + 1 := ⟨n - 1, by omega⟩
    refine br_f (nI_ge (b := 16) (by omega) (by decide)) ?_
    refine pk_lt (hd + 1) cl (fun l => ?_) (fun l => ?_) (nI_1 hd)
    · refine xt_59 (nI_1 hd) (by omega) (K _ _ l) ?_
      exact ih (i + 1) (by omega) n (by omega) (hd + 1) _ l K
    · refine xt_59 (z := 0) rfl (by omega) (K 0 _ (by omega)) ?_
      exact ih (i + 1) (by omega) n (by omega) 0 _ (by omega) K
theorem xt_2 {post : Int32 → SX → Prop} {cl hd : Nat} (hc1 : 1 ≤ cl) (hc8 : cl ≤ 8) (hh : hd < cl)
    (K : ∀ (s h : Nat) (br' : Nat → Int32), s < cl → h < cl → post (nI s) (f_size, f_executedCount, f_regA, f_regX, f_regS, f_pc, f_flagBits, f_znPending, f_znResult, f_cvKind, f_cvLeft, f_cvRight, f_cvWide, f_inHead, f_inSize, f_outHead, f_outSize, f_lastCode, f_lastDetail, nI cl, f_lengthLimit, nI h, f_running, f_linkFrom, f_exitKind, f_controlDone, f_trapCode, f_trapDetail, a_mem, a_marks, a_visitCount, a_inQueue, a_outQueue, a_blockStart, a_blockCount, br', a_links, a_entry, a_cover, a_opKind, a_opMode, a_opArg)) : ∀ d s, s + d = cl → ∀ n, d < n →
    wX_chooseSlot_2 post f_size f_executedCount f_regA f_regX f_regS f_pc f_flagBits f_znPending f_znResult f_cvKind f_cvLeft f_cvRight f_cvWide f_inHead f_inSize f_outHead f_outSize f_lastCode f_lastDetail (nI cl) f_lengthLimit (nI hd) f_running f_linkFrom f_exitKind f_controlDone f_trapCode f_trapDetail a_mem a_marks a_visitCount a_inQueue a_outQueue a_blockStart a_blockCount a_blockRecent a_links a_entry a_cover a_opKind a_opMode a_opArg n (nI s) := by
  intro d
  induction d with
  | zero =>
    intro s hs n hn
    obtain ⟨n, rfl⟩ : ∃ m, n = m + 1 := ⟨n - 1, by omega⟩
    refine br_t (nI_le (by omega) (by omega)) ?_
    refine ⟨17, ?_⟩
    refine xt_29 hc1 hc8 16 0 (by omega) 17 (by omega) hd a_blockRecent hh ?_
    intro h br' hh'
    exact K h h br' hh' hh'
  | succ d ih =>
    intro s hs n hn
    obtain ⟨n, rfl⟩ : ∃ m, n = m + 1 := ⟨n - 1, by omega⟩
    refine br_f (nI_ge (by omega) (by omega)) ?_
    refine And.intro (vp_in_nI (by omega) (by decide)) ?_
    refine br_c (fun _ => ?_) (fun _ => ?_)
    · refine nm_r (e' := nI (s + 1)) (nI_1 s) ?_
      exact ih (s + 1) (by omega) n (by omega)
    · exact K s hd a_blockRecent (by omega) hh
theorem xt_choose {post : Int32 → SX → Prop} {cl hd : Nat} (hc1 : 1 ≤ cl) (hc8 : cl ≤ 8) (hh : hd < cl)
    (K : ∀ (s h : Nat) (br' : Nat → Int32), s < cl → h < cl → post (nI s) (f_size, f_executedCount, f_regA, f_regX, f_regS, f_pc, f_flagBits, f_znPending, f_znResult, f_cvKind, f_cvLeft, f_cvRight, f_cvWide, f_inHead, f_inSize, f_outHead, f_outSize, f_lastCode, f_lastDetail, nI cl, f_lengthLimit, nI h, f_running, f_linkFrom, f_exitKind, f_controlDone, f_trapCode, f_trapDetail, a_mem, a_marks, a_visitCount, a_inQueue, a_outQueue, a_blockStart, a_blockCount, br', a_links, a_entry, a_cover, a_opKind, a_opMode, a_opArg)) : wpX_chooseSlot post (f_size, f_executedCount, f_regA, f_regX, f_regS, f_pc, f_flagBits, f_znPending, f_znResult, f_cvKind, f_cvLeft, f_cvRight, f_cvWide, f_inHead, f_inSize, f_outHead, f_outSize, f_lastCode, f_lastDetail, nI cl, f_lengthLimit, nI hd, f_running, f_linkFrom, f_exitKind, f_controlDone, f_trapCode, f_trapDetail, a_mem, a_marks, a_visitCount, a_inQueue, a_outQueue, a_blockStart, a_blockCount, a_blockRecent, a_links, a_entry, a_cover, a_opKind, a_opMode, a_opArg) :=
  ⟨cl + 1, xt_2 hc1 hc8 hh K cl 0 (by omega) (cl + 1) (by omega)⟩
theorem xt_closed {post : Int32 → SX → Prop} {x1 x2 x3 x4 x6 : Int32} {n : Nat} (K : wX_translate_158 post x1 x2 x4 f_size f_executedCount f_regA f_regX f_regS f_pc f_flagBits f_znPending f_znResult f_cvKind f_cvLeft f_cvRight f_cvWide f_inHead f_inSize f_outHead f_outSize f_lastCode f_lastDetail f_cacheLimit f_lengthLimit f_hand f_running f_linkFrom f_exitKind f_controlDone f_trapCode f_trapDetail a_mem a_marks a_visitCount a_inQueue a_outQueue a_blockStart a_blockCount a_blockRecent a_links a_entry a_cover a_opKind a_opMode a_opArg) : wX_translate_33 post x1 x2 x3 (n + 1) x4 0 x6 f_size f_executedCount f_regA f_regX f_regS f_pc f_flagBits f_znPending f_znResult f_cvKind f_cvLeft f_cvRight f_cvWide f_inHead f_inSize f_outHead f_outSize f_lastCode f_lastDetail f_cacheLimit f_lengthLimit f_hand f_running f_linkFrom f_exitKind f_controlDone f_trapCode f_trapDetail a_mem a_marks a_visitCount a_inQueue a_outQueue a_blockStart a_blockCount a_blockRecent a_links a_entry a_cover a_opKind a_opMode a_opArg :=
  br_c (fun _ => K) (fun _ => br_t rfl K)
theorem xt_158 {post : Int32 → SX → Prop} {s st ct : Nat} (hs : s < 8) (hst : st < 256)
    (h : post (nI s) (f_size, f_executedCount, f_regA, f_regX, f_regS, f_pc, f_flagBits, f_znPending, f_znResult, f_cvKind, f_cvLeft, f_cvRight, f_cvWide, f_inHead, f_inSize, f_outHead, f_outSize, f_lastCode, f_lastDetail, f_cacheLimit, f_lengthLimit, f_hand, f_running, f_linkFrom, f_exitKind, f_controlDone, f_trapCode, f_trapDetail, a_mem, a_marks, a_visitCount, a_inQueue, a_outQueue, upd a_blockStart s (nI st), upd a_blockCount s (nI ct), upd a_blockRecent s (vp_nar .boolean 0), upd (upd a_links (s * 2) (-1)) (s * 2 + 1) (-1), upd a_entry st (nI s), a_cover, a_opKind, a_opMode, a_opArg)) : wX_translate_158 post (nI st) (nI s) (nI ct) f_size f_executedCount f_regA f_regX f_regS f_pc f_flagBits f_znPending f_znResult f_cvKind f_cvLeft f_cvRight f_cvWide f_inHead f_inSize f_outHead f_outSize f_lastCode f_lastDetail f_cacheLimit f_lengthLimit f_hand f_running f_linkFrom f_exitKind f_controlDone f_trapCode f_trapDetail a_mem a_marks a_visitCount a_inQueue a_outQueue a_blockStart a_blockCount a_blockRecent a_links a_entry a_cover a_opKind a_opMode a_opArg := by
  have hin : vp_in (nI s) 8 := vp_in_nI hs (by decide)
  have ec : (nI s).toNatClampNeg = s := nI_clamp (by omega)
  refine And.intro hin (nm_r (e' := upd a_blockStart s (nI st)) (by rw [ec]) ?_)
  refine And.intro hin (nm_r (e' := upd a_blockCount s (nI ct)) (by rw [ec]) ?_)
  refine And.intro hin (nm_r (e' := upd a_blockRecent s (vp_nar .boolean 0)) (by rw [ec]) ?_)
  refine And.intro (by rw [ab_x2]; exact vp_in_nI (by omega) (by decide)) (nm_r (e' := upd a_links (s * 2) (-1)) (by rw [ab_x2, nI_clamp (by omega)]) ?_)
  refine And.intro (by rw [ab_x21]; exact vp_in_nI (by omega) (by decide)) (nm_r (e' := upd (upd a_links (s * 2) (-1)) (s * 2 + 1) (-1)) (by rw [ab_x21, nI_clamp (by omega)]) ?_)
  refine And.intro (vp_in_nI hst (by decide)) (nm_r (e' := upd a_entry st (nI s)) (by rw [nI_clamp (by omega)]) ?_)
  exact h
theorem xt_83 {post : Int32 → SX → Prop} {s st i sz w n : Nat} {x7 : Int32} (hx7 : x7 = nI (st + i)) (hs : s < 8) (hi : i < 16) (hz : sz ≤ 256) (hst : st + i < sz) (hw : w < 65536) (hm : a_mem (st + i) = nI w)
    (K : ∀ b : Int32, (b = 0 ∨ (b = 1 ∧ dc_go (nI (dc_D sz w).1))) → wX_translate_33 post (nI st) (nI s) (nI (s * 16)) n (nI (i + 1)) b (nI (i + 1)) (nI sz) f_executedCount f_regA f_regX f_regS f_pc f_flagBits f_znPending f_znResult f_cvKind f_cvLeft f_cvRight f_cvWide f_inHead f_inSize f_outHead f_outSize f_lastCode f_lastDetail f_cacheLimit f_lengthLimit f_hand f_running f_linkFrom f_exitKind f_controlDone f_trapCode f_trapDetail a_mem a_marks a_visitCount a_inQueue a_outQueue a_blockStart a_blockCount a_blockRecent a_links a_entry (upd a_cover (st + i) (a_cover (st + i) + 1)) (upd a_opKind (s * 16 + i) (nI (dc_D sz w).1)) (upd a_opMode (s * 16 + i) (nI (dc_D sz w).2.1)) (upd a_opArg (s * 16 + i) (nI (dc_D sz w).2.2))) :
    wX_translate_83 post (wX_translate_33 post (nI st) (nI s) (nI (s * 16)) n) (nI st) (nI s) (nI (s * 16)) (nI i) (nI i) x7 (nI sz) f_executedCount f_regA f_regX f_regS f_pc f_flagBits f_znPending f_znResult f_cvKind f_cvLeft f_cvRight f_cvWide f_inHead f_inSize f_outHead f_outSize f_lastCode f_lastDetail f_cacheLimit f_lengthLimit f_hand f_running f_linkFrom f_exitKind f_controlDone f_trapCode f_trapDetail a_mem a_marks a_visitCount a_inQueue a_outQueue a_blockStart a_blockCount a_blockRecent a_links a_entry a_cover a_opKind a_opMode a_opArg := by
  subst hx7
  have hin : vp_in (nI (st + i)) 256 := vp_in_nI (by omega) (by decide)
  have ec : (nI (st + i)).toNatClampNeg = st + i := nI_clamp (by omega)
  have ei : nI (s * 16) + nI i = nI (s * 16 + i) := nI_add _ _
  refine And.intro hin ?_
  rw [ec, hm, ei]
  refine xe_decode (by omega) hz hw ?_
  refine And.intro hin ?_
  refine And.intro hin (nm_r (e' := upd a_cover (st + i) (a_cover (st + i) + 1)) rfl ?_)
  refine nm_r (e' := nI (i + 1)) (nI_1 i) ?_
  refine And.intro (vp_in_nI (by omega) (by decide)) ?_
  refine nm_r (e' := nI (dc_D sz w).1) (by rw [nI_clamp (by omega)]; exact pk_us) ?_
  refine br_c (fun _ => ?_) (fun l1 => ?_)
  · exact nm_r (e' := nI (i + 1)) (nI_1 i) (K 0 (Or.inl rfl))
  · refine br_c (fun l2 => ?_) (fun l2 => ?_)
    · exact nm_r (e' := nI (i + 1)) (nI_1 i) (K 1 (Or.inr ⟨rfl, Int32.not_le.mp l1, Or.inl l2⟩))
    · refine br_c (fun l3 => ?_) (fun l3 => ?_)
      · exact nm_r (e' := nI (i + 1)) (nI_1 i) (K 0 (Or.inl rfl))
      · exact nm_r (e' := nI (i + 1)) (nI_1 i) (K 1 (Or.inr ⟨rfl, Int32.not_le.mp l1, Or.inr (Int32.not_le.mp l3)⟩))
theorem tr_step {sz s st i w : Nat} {mem mk cv0 oK0 oM0 oA0 cv oK oM oA : Nat → Int32} (T : tr_I sz s st mem mk cv0 oK0 oM0 oA0 i cv oK oM oA) (hi : i < 16) (hst : st + i < sz) (hw : w < 65536) (hm : mem (st + i) = nI w) (hk : 0 < i → mk (st + i) = 0) :
    tr_I sz s st mem mk cv0 oK0 oM0 oA0 (i + 1) (upd cv (st + i) (cv (st + i) + 1)) (upd oK (s * 16 + i) (nI (dc_D sz w).1)) (upd oM (s * 16 + i) (nI (dc_D sz w).2.1)) (upd oA (s * 16 + i) (nI (dc_D sz w).2.2)) := by
  obtain ⟨t1, t2, t3, t4, t5, t6⟩ := T
  refine ⟨by omega, by omega, ?_, ?_, ?_, ?_⟩
  · intro j hj
    by_cases e : j = i
    · subst e
      rw [pk_us, pk_us, pk_us]
      exact ⟨w, hw, hm, rfl, rfl, rfl⟩
    · rw [pk_un (by omega), pk_un (by omega), pk_un (by omega)]
      exact t3 j (by omega)
  · intro k hk'
    rw [pk_un (by omega), pk_un (by omega), pk_un (by omega)]
    exact t4 k hk'
  · intro a
    by_cases e : a = st + i
    · subst e
      rw [pk_us, if_pos (by omega), t5, if_neg (by omega)]
    · rw [pk_un e, t5]
      by_cases q : st ≤ a ∧ a < st + i
      · rw [if_pos q, if_pos (by omega)]
      · rw [if_neg q, if_neg (by omega)]
  · intro j h0 hj
    by_cases e : j = i
    · subst e
      exact hk h0
    · exact t6 j h0 (by omega)
theorem xt_33 {post : Int32 → SX → Prop} {s st sz ll : Nat} {cv0 oK0 oM0 oA0 : Nat → Int32} (hs : s < 8) (hz : sz ≤ 256) (hst : st < sz) (hl1 : 1 ≤ ll) (hl : ll ≤ 16) (hm : ∀ j, ab_W (a_mem j))
    (K : ∀ (ct : Nat) (cv oK oM oA : Nat → Int32), 1 ≤ ct → tr_I sz s st a_mem a_marks cv0 oK0 oM0 oA0 ct cv oK oM oA → (∀ j, j + 1 < ct → dc_go (oK (s * 16 + j))) → wX_translate_158 post (nI st) (nI s) (nI ct) (nI sz) f_executedCount f_regA f_regX f_regS f_pc f_flagBits f_znPending f_znResult f_cvKind f_cvLeft f_cvRight f_cvWide f_inHead f_inSize f_outHead f_outSize f_lastCode f_lastDetail f_cacheLimit (nI ll) f_hand f_running f_linkFrom f_exitKind f_controlDone f_trapCode f_trapDetail a_mem a_marks a_visitCount a_inQueue a_outQueue a_blockStart a_blockCount a_blockRecent a_links a_entry cv oK oM oA) :
    ∀ d i, i + d = ll → ∀ n, d + 1 < n → ∀ (cv oK oM oA : Nat → Int32), tr_I sz s st a_mem a_marks cv0 oK0 oM0 oA0 i cv oK oM oA → (∀ j, j < i → dc_go (oK (s * 16 + j))) →
    wX_translate_33 post (nI st) (nI s) (nI (s * 16)) n (nI i) 1 (nI i) (nI sz) f_executedCount f_regA f_regX f_regS f_pc f_flagBits f_znPending f_znResult f_cvKind f_cvLeft f_cvRight f_cvWide f_inHead f_inSize f_outHead f_outSize f_lastCode f_lastDetail f_cacheLimit (nI ll) f_hand f_running f_linkFrom f_exitKind f_controlDone f_trapCode f_trapDetail a_mem a_marks a_visitCount a_inQueue a_outQueue a_blockStart a_blockCount a_blockRecent a_links a_entry cv oK oM oA := by
  intro d
  induction d with
  | zero =>
    intro i hi n hn cv oK oM oA T G
    obtain ⟨n, rfl⟩ : ∃ m, n = m + 1 := ⟨n - 1, by omega⟩
    refine br_t (nI_le (by omega) (by omega)) ?_
    exact K i cv oK oM oA (by omega) T (fun j hj => G j (by omega))
  | succ d ih =>
    intro i hi n hn cv oK oM oA T G
    obtain ⟨n, rfl⟩ : ∃ m, n = m + 1 + 1 := ⟨n - 2, by omega⟩
    refine br_f (nI_ge (by omega) (by omega)) ?_
    refine br_f (by decide) ?_
    refine nm_r (e' := nI (st + i)) (nI_add st i) ?_
    have close : 0 < i → wX_translate_33 post (nI st) (nI s) (nI (s * 16)) (n + 1) (nI i) 0 (nI (i + 1)) (nI sz) f_executedCount f_regA f_regX f_regS f_pc f_flagBits f_znPending f_znResult f_cvKind f_cvLeft f_cvRight f_cvWide f_inHead f_inSize f_outHead f_outSize f_lastCode f_lastDetail f_cacheLimit (nI ll) f_hand f_running f_linkFrom f_exitKind f_controlDone f_trapCode f_trapDetail a_mem a_marks a_visitCount a_inQueue a_outQueue a_blockStart a_blockCount a_blockRecent a_links a_entry cv oK oM oA := by
      intro h0
      refine xt_closed ?_
      exact K i cv oK oM oA (by omega) T (fun j hj => G j (by omega))
    have go : st + i < sz → (0 < i → a_marks (st + i) = 0) → wX_translate_83 post (wX_translate_33 post (nI st) (nI s) (nI (s * 16)) (n + 1)) (nI st) (nI s) (nI (s * 16)) (nI i) (nI i) (nI (st + i)) (nI sz) f_executedCount f_regA f_regX f_regS f_pc f_flagBits f_znPending f_znResult f_cvKind f_cvLeft f_cvRight f_cvWide f_inHead f_inSize f_outHead f_outSize f_lastCode f_lastDetail f_cacheLimit (nI ll) f_hand f_running f_linkFrom f_exitKind f_controlDone f_trapCode f_trapDetail a_mem a_marks a_visitCount a_inQueue a_outQueue a_blockStart a_blockCount a_blockRecent a_links a_entry cv oK oM oA := by
      intro hlt hmk
      obtain ⟨w, hw, ew⟩ := hm (st + i)
      have T' := tr_step T (by omega) hlt hw ew hmk
      refine xt_83 rfl hs (by omega) hz hlt hw ew ?_
      intro b hb
      rcases hb with rfl | ⟨rfl, hgo⟩
      · refine xt_closed ?_
        refine K (i + 1) _ _ _ _ (by omega) T' ?_
        intro j hj
        rw [pk_un (by omega)]
        exact G j (by omega)
      · refine ih (i + 1) (by omega) (n + 1) (by omega) _ _ _ _ T' ?_
        intro j hj
        by_cases e : j = i
        · subst e
          rw [pk_us]
          exact hgo
        · rw [pk_un (by omega)]
          exact G j (by omega)
    refine pk_le sz (st + i) (fun l => ?_) (fun l => ?_)
    · refine nm_r (e' := nI (i + 1)) (nI_1 i) ?_
      exact close (by omega)
    · refine pk_le i 0 (fun l0 => ?_) (fun l0 => ?_)
      · exact go l (by omega)
      · refine And.intro (vp_in_nI (by omega) (by decide)) ?_
        refine br_c (fun e => ?_) (fun _ => ?_)
        · rw [nI_clamp (by omega)] at e
          exact go l (fun _ => e)
        · refine nm_r (e' := nI (i + 1)) (nI_1 i) ?_
          exact close (by omega)
theorem xt_translate {post : Int32 → SX → Prop} {st sz ll cl hd : Nat} {g : Nat → Option (Nat × Nat)} (hz : sz ≤ 256) (hst : st < sz) (hl1 : 1 ≤ ll) (hl : ll ≤ 16) (hc1 : 1 ≤ cl) (hc8 : cl ≤ 8) (hh : hd < cl) (hm : ∀ j, ab_W (a_mem j))
    (C : ca_CI sz g a_mem a_marks a_blockStart a_blockCount a_links a_entry a_cover a_opKind a_opMode a_opArg) (he : a_entry st = -1)
    (K : ∀ (s ct hd' : Nat) (g1 : Nat → Option (Nat × Nat)) (run' lf' : Int32) (bs bc br lk en cv oK oM oA : Nat → Int32), s < 8 → hd' < cl → g1 s = none → ca_DR g f_running f_linkFrom g1 run' lf' →
      ca_CI sz (ca_put g1 s st ct) a_mem a_marks bs bc lk en cv oK oM oA → (∀ k, (k < s * 16 ∨ s * 16 + 16 ≤ k) → oA k = a_opArg k) →
      post (nI s) (nI sz, f_executedCount, f_regA, f_regX, f_regS, f_pc, f_flagBits, f_znPending, f_znResult, f_cvKind, f_cvLeft, f_cvRight, f_cvWide, f_inHead, f_inSize, f_outHead, f_outSize, f_lastCode, f_lastDetail, nI cl, nI ll, nI hd', run', lf', f_exitKind, f_controlDone, f_trapCode, f_trapDetail, a_mem, a_marks, a_visitCount, a_inQueue, a_outQueue, bs, bc, br, lk, en, cv, oK, oM, oA)) :
    wpX_translate post (nI sz, f_executedCount, f_regA, f_regX, f_regS, f_pc, f_flagBits, f_znPending, f_znResult, f_cvKind, f_cvLeft, f_cvRight, f_cvWide, f_inHead, f_inSize, f_outHead, f_outSize, f_lastCode, f_lastDetail, nI cl, nI ll, nI hd, f_running, f_linkFrom, f_exitKind, f_controlDone, f_trapCode, f_trapDetail, a_mem, a_marks, a_visitCount, a_inQueue, a_outQueue, a_blockStart, a_blockCount, a_blockRecent, a_links, a_entry, a_cover, a_opKind, a_opMode, a_opArg) (nI st) := by
  unfold wpX_translate
  refine xt_choose hc1 hc8 hh ?_
  intro s hd' br hs hh'
  have hs8 : s < 8 := by omega
  have ec : (nI s).toNatClampNeg = s := nI_clamp (by omega)
  refine And.intro (vp_in_nI hs8 (by decide)) ?_
  have fin : ∀ (g1 : Nat → Option (Nat × Nat)) (run' lf' : Int32) (bs bc br lk en cv : Nat → Int32), g1 s = none → ca_DR g f_running f_linkFrom g1 run' lf' → ca_CI sz g1 a_mem a_marks bs bc lk en cv a_opKind a_opMode a_opArg → en st = -1 →
      wX_translate_19 post (nI st) (nI s) (nI sz) f_executedCount f_regA f_regX f_regS f_pc f_flagBits f_znPending f_znResult f_cvKind f_cvLeft f_cvRight f_cvWide f_inHead f_inSize f_outHead f_outSize f_lastCode f_lastDetail (nI cl) (nI ll) (nI hd') run' lf' f_exitKind f_controlDone f_trapCode f_trapDetail a_mem a_marks a_visitCount a_inQueue a_outQueue bs bc br lk en cv a_opKind a_opMode a_opArg := by
    intro g1 run' lf' bs bc br lk en cv hg1 D C1 hen
    refine nm_r (e' := nI (s * 16)) (ab_x16 s) ?_
    refine ⟨ll + 2, ?_⟩
    refine xt_33 (cv0 := cv) (oK0 := a_opKind) (oM0 := a_opMode) (oA0 := a_opArg) hs8 hz hst hl1 hl hm ?_ ll 0 (by omega) (ll + 2) (by omega) cv a_opKind a_opMode a_opArg ?_ ?_
    · intro ct cv' oK oM oA h1 T G
      refine xt_158 hs8 (by omega) ?_
      exact K s ct hd' g1 run' lf' _ _ _ _ _ cv' oK oM oA hs8 hh' hg1 D (ca_Lput C1 hz hs8 hg1 hen h1 T G) (fun k hk => (T.2.2.2.1 k hk).2.2)
    · refine ⟨by omega, by omega, fun j hj => by omega, fun k _ => ⟨rfl, rfl, rfl⟩, ?_, fun j _ hj => by omega⟩
      intro a
      rw [if_neg (by omega)]
    · intro j hj
      omega
  cases hg : g s with
  | none =>
    refine br_t (by rw [ec, ca_none C hs8 hg]; decide) ?_
    exact fin g f_running f_linkFrom _ _ _ _ _ _ hg ca_DRr C he
  | some p =>
    obtain ⟨st', ct'⟩ := p
    have B := ca_some C hs8 hg
    refine br_f (by rw [ec, B.1]; exact nI_pos (by have := B.2.2.2.2.1; omega)) ?_
    refine xd_drop hz C hs8 hg ?_
    intro bs bc br' lk en cv C' hen
    refine fin (ca_del g s) _ _ bs bc br' lk en cv ca_del_s ca_DRd C' ?_
    rcases hen st with e | e
    · rw [e]; exact he
    · exact e
end XT
end
section
/-! X: findBlock -/
/-- the link that is to be taken: none, or an exit of a live block whose target is p -/
def fi_L (g : Nat → Option (Nat × Nat)) (oA : Nat → Int32) (lf ek : Int32) (p : Nat) : Prop :=
  lf = -1 ∨ ∃ r e st ct : Nat, r < 8 ∧ e < 2 ∧ lf = nI r ∧ ek = nI e ∧ g r = some (st, ct) ∧ nI p = ca_tg oA r st ct e
section XF
variable {f_size f_executedCount f_regA f_regX f_regS f_pc f_flagBits f_znPending f_znResult f_cvKind f_cvLeft f_cvRight f_cvWide f_inHead f_inSize f_outHead f_outSize f_lastCode f_lastDetail f_cacheLimit f_lengthLimit f_hand f_running f_linkFrom f_exitKind f_controlDone f_trapCode f_trapDetail : Int32} {a_mem a_marks a_visitCount a_inQueue a_outQueue a_blockStart a_blockCount a_blockRecent a_links a_entry a_cover a_opKind a_opMode a_opArg : Nat → Int32}
theorem xf_53 {post : Int32 → SX → Prop} {sz t p ct : Nat} {g : Nat → Option (Nat × Nat)} {mem mk : Nat → Int32} (ht : t < 8)
    (C : ca_CI sz g mem mk a_blockStart a_blockCount a_links a_entry a_cover a_opKind a_opMode a_opArg) (hg : g t = some (p, ct)) (L : fi_L g a_opArg f_linkFrom f_exitKind p)
    (K : ∀ lk : Nat → Int32, ca_CI sz g mem mk a_blockStart a_blockCount lk a_entry a_cover a_opKind a_opMode a_opArg → post (nI t) (f_size, f_executedCount, f_regA, f_regX, f_regS, f_pc, f_flagBits, f_znPending, f_znResult, f_cvKind, f_cvLeft, f_cvRight, f_cvWide, f_inHead, f_inSize, f_outHead, f_outSize, f_lastCode, f_lastDetail, f_cacheLimit, f_lengthLimit, f_hand, f_running, f_linkFrom, f_exitKind, f_controlDone, f_trapCode, f_trapDetail, a_mem, a_marks, a_visitCount, a_inQueue, a_outQueue, a_blockStart, a_blockCount, a_blockRecent, lk, a_entry, a_cover, a_opKind, a_opMode, a_opArg)) : wX_findBlock_53 post (nI t) f_size f_executedCount f_regA f_regX f_regS f_pc f_flagBits f_znPending f_znResult f_cvKind f_cvLeft f_cvRight f_cvWide f_inHead f_inSize f_outHead f_outSize f_lastCode f_lastDetail f_cacheLimit f_lengthLimit f_hand f_running f_linkFrom f_exitKind f_controlDone f_trapCode f_trapDetail a_mem a_marks a_visitCount a_inQueue a_outQueue a_blockStart a_blockCount a_blockRecent a_links a_entry a_cover a_opKind a_opMode a_opArg := by
  rcases L with h | ⟨r, e, st, ct', hr, he, h1, h2, h3, h4⟩
  · refine br_t (by rw [h]; decide) ?_
    exact K a_links C
  · subst h1 h2
    have ei : nI r * 2 + nI e = nI (r * 2 + e) := by rw [ab_x2, nI_add]
    refine br_f (nI_pos (by omega)) ?_
    refine And.intro (by rw [ei]; exact vp_in_nI (by omega) (by decide)) ?_
    refine nm_r (e' := upd a_links (r * 2 + e) (nI t)) (by rw [ei, nI_clamp (by omega)]) ?_
    exact K _ (ca_Llink C hr he ht h3 hg h4)
theorem xf_30 {post : Int32 → SX → Prop} {p sz ll cl hd : Nat} {g : Nat → Option (Nat × Nat)} (hz : sz ≤ 256) (hp : p < sz) (hl1 : 1 ≤ ll) (hl : ll ≤ 16) (hc1 : 1 ≤ cl) (hc8 : cl ≤ 8) (hh : hd < cl) (hm : ∀ j, ab_W (a_mem j))
    (C : ca_CI sz g a_mem a_marks a_blockStart a_blockCount a_links a_entry a_cover a_opKind a_opMode a_opArg) (L : fi_L g a_opArg f_linkFrom f_exitKind p)
    (K : ∀ (t ct hd' : Nat) (g' : Nat → Option (Nat × Nat)) (run' lf' : Int32) (bs bc br lk en cv oK oM oA : Nat → Int32), t < 8 → hd' < cl → g' t = some (p, ct) → ca_CI sz g' a_mem a_marks bs bc lk en cv oK oM oA →
      post (nI t) (nI sz, f_executedCount, f_regA, f_regX, f_regS, nI p, f_flagBits, f_znPending, f_znResult, f_cvKind, f_cvLeft, f_cvRight, f_cvWide, f_inHead, f_inSize, f_outHead, f_outSize, f_lastCode, f_lastDetail, nI cl, nI ll, nI hd', run', lf', f_exitKind, f_controlDone, f_trapCode, f_trapDetail, a_mem, a_marks, a_visitCount, a_inQueue, a_outQueue, bs, bc, br, lk, en, cv, oK, oM, oA)) :
    wX_findBlock_30 post (nI sz) f_executedCount f_regA f_regX f_regS (nI p) f_flagBits f_znPending f_znResult f_cvKind f_cvLeft f_cvRight f_cvWide f_inHead f_inSize f_outHead f_outSize f_lastCode f_lastDetail (nI cl) (nI ll) (nI hd) f_running f_linkFrom f_exitKind f_controlDone f_trapCode f_trapDetail a_mem a_marks a_visitCount a_inQueue a_outQueue a_blockStart a_blockCount a_blockRecent a_links a_entry a_cover a_opKind a_opMode a_opArg := by
  have ec : (nI p).toNatClampNeg = p := nI_clamp (by omega)
  refine And.intro (vp_in_nI (by omega) (by decide)) ?_
  rcases C.2.2.1 p (by omega) with h | ⟨t, ct, ht, h1, h2⟩
  · refine nm_r (e' := -1) (by rw [ec]; exact h) ?_
    refine br_f (by decide) ?_
    refine xt_translate hz hp hl1 hl hc1 hc8 hh hm C h ?_
    intro s ct hd' g1 run' lf' bs bc br lk en cv oK oM oA hs hh' hg1 D C' hoA
    refine xf_53 hs C' ca_put_s ?_ ?_
    · obtain ⟨d1, d2, d3, d4, d5⟩ := D
      rcases L with q | ⟨r, e, st, ct', hr, he, q1, q2, q3, q4⟩
      · exact Or.inl (d3.elim (fun z => z.trans q) id)
      · rcases d3 with d3 | d3
        · have q5 := d5 r hr (d3.trans q1)
          have q6 : r ≠ s := by
            intro z
            rw [← z, q5, q3] at hg1
            cases hg1
          refine Or.inr ⟨r, e, st, ct', hr, he, d3.trans q1, q2, ?_, ?_⟩
          · rw [ca_put_n q6, q5]; exact q3
          · rw [q4]
            unfold ca_tg
            have B := ca_some C hr q3
            rw [hoA (r * 16 + (ct' - 1)) (by have := B.2.2.1; have := B.2.2.2.1; omega)]
        · exact Or.inl d3
    · intro lk' C2
      exact K s ct hd' _ run' lf' bs bc br lk' en cv oK oM oA hs hh' ca_put_s C2
  · refine nm_r (e' := nI t) (by rw [ec]; exact h1) ?_
    refine br_t (nI_pos' (by omega)) ?_
    refine xf_53 ht C h2 L ?_
    intro lk' C2
    exact K t ct hd g f_running f_linkFrom _ _ a_blockRecent lk' _ _ _ _ _ ht hh h2 C2
theorem xf_find {post : Int32 → SX → Prop} {p sz ll cl hd : Nat} {g : Nat → Option (Nat × Nat)} (hz : sz ≤ 256) (hp : p < sz) (hl1 : 1 ≤ ll) (hl : ll ≤ 16) (hc1 : 1 ≤ cl) (hc8 : cl ≤ 8) (hh : hd < cl) (hm : ∀ j, ab_W (a_mem j))
    (C : ca_CI sz g a_mem a_marks a_blockStart a_blockCount a_links a_entry a_cover a_opKind a_opMode a_opArg) (L : fi_L g a_opArg f_linkFrom f_exitKind p)
    (K : ∀ (t ct hd' : Nat) (g' : Nat → Option (Nat × Nat)) (run' lf' : Int32) (bs bc br lk en cv oK oM oA : Nat → Int32), t < 8 → hd' < cl → g' t = some (p, ct) → ca_CI sz g' a_mem a_marks bs bc lk en cv oK oM oA →
      post (nI t) (nI sz, f_executedCount, f_regA, f_regX, f_regS, nI p, f_flagBits, f_znPending, f_znResult, f_cvKind, f_cvLeft, f_cvRight, f_cvWide, f_inHead, f_inSize, f_outHead, f_outSize, f_lastCode, f_lastDetail, nI cl, nI ll, nI hd', run', lf', f_exitKind, f_controlDone, f_trapCode, f_trapDetail, a_mem, a_marks, a_visitCount, a_inQueue, a_outQueue, bs, bc, br, lk, en, cv, oK, oM, oA)) :
    wpX_findBlock post (nI sz, f_executedCount, f_regA, f_regX, f_regS, nI p, f_flagBits, f_znPending, f_znResult, f_cvKind, f_cvLeft, f_cvRight, f_cvWide, f_inHead, f_inSize, f_outHead, f_outSize, f_lastCode, f_lastDetail, nI cl, nI ll, nI hd, f_running, f_linkFrom, f_exitKind, f_controlDone, f_trapCode, f_trapDetail, a_mem, a_marks, a_visitCount, a_inQueue, a_outQueue, a_blockStart, a_blockCount, a_blockRecent, a_links, a_entry, a_cover, a_opKind, a_opMode, a_opArg) := by
  have W := xf_30 (post := post) (f_running := f_running) (a_blockRecent := a_blockRecent) hz hp hl1 hl hc1 hc8 hh hm C L K
  rcases L with h | ⟨r, e, st, ct', hr, he, h1, h2, h3, h4⟩
  · refine br_t (by rw [h]; decide) ?_
    exact W
  · have ei : f_linkFrom * 2 + f_exitKind = nI (r * 2 + e) := by rw [h1, h2, ab_x2, nI_add]
    refine br_f (by rw [h1]; exact nI_pos (by omega)) ?_
    refine And.intro (by rw [ei]; exact vp_in_nI (by omega) (by decide)) ?_
    rcases C.2.2.2.2 r e hr he with q | ⟨t, st2, ct2, tg, ct3, q1, q2, q3, q4, q5⟩
    · refine nm_r (e' := -1) (by rw [ei, nI_clamp (by omega)]; exact q) ?_
      refine br_t (by decide) ?_
      exact W
    · refine nm_r (e' := nI t) (by rw [ei, nI_clamp (by omega)]; exact q2) ?_
      refine br_f (nI_pos (by omega)) ?_
      have q6 : (st2, ct2) = (st, ct') := by
        rw [h3] at q3
        injection q3 with q3
        exact q3.symm
      injection q6 with q7 q8
      subst q7 q8
      have B := ca_some C q1 q4
      have q9 : tg = p := ab_im (q5.trans h4.symm) (by have := B.2.2.2.2.1; omega) (by omega)
      subst q9
      exact K t ct3 hd g f_running f_linkFrom _ _ a_blockRecent _ _ _ _ _ _ q1 hh q4 C
end XF
end
section
/-! Y's methods and its step, one theorem an opcode (printed by gen10.py) -/
theorem ab_bit {c : Prop} {z : Int32} {F : Int32 → Prop} (hz : fg_B z) (hc : c ↔ z = 0) (h : F z) : (c → F 0) ∧ (¬ c → F 1) :=
  ⟨fun e => (hc.mp e) ▸ h, fun e => (fg_1 hz (fun q => e (hc.mpr q))) ▸ h⟩
theorem ab_nel {o b : Nat} (h : o ≠ b) (ho : o < 2 ^ 31) (hb : b < 2 ^ 31) : ¬ nI o = nI b := fun e => h (ab_im e ho hb)
section YS
variable {f_inSize f_outSize f_size f_regA f_regX f_regS f_pc y_fl f_executedCount f_lastCode f_lastDetail : Int32} {a_mem y_scr a_visitCount a_marks y_inp y_outp : Nat → Int32}
theorem ys_setFlag {post : SY → Prop} {b on : Int32} (h : post (f_inSize, f_outSize, f_size, f_regA, f_regX, f_regS, f_pc, fg_sf y_fl b on, f_executedCount, f_lastCode, f_lastDetail, a_mem, y_scr, a_visitCount, a_marks, y_inp, y_outp)) : wpY_setFlag post (f_inSize, f_outSize, f_size, f_regA, f_regX, f_regS, f_pc, y_fl, f_executedCount, f_lastCode, f_lastDetail, a_mem, y_scr, a_visitCount, a_marks, y_inp, y_outp) b on :=
  nm_e (ab_if (P := fun z => post (f_inSize, f_outSize, f_size, f_regA, f_regX, f_regS, f_pc, z, f_executedCount, f_lastCode, f_lastDetail, a_mem, y_scr, a_visitCount, a_marks, y_inp, y_outp)) h id (fun h => nm_e h))
theorem ys_28 {post : SY → Prop} {on : Int32} (h : post (f_inSize, f_outSize, f_size, f_regA, f_regX, f_regS, f_pc, fg_sf y_fl 2 on, f_executedCount, f_lastCode, f_lastDetail, a_mem, y_scr, a_visitCount, a_marks, y_inp, y_outp)) : wY_setZN_28 post on 2 f_inSize f_outSize f_size f_regA f_regX f_regS f_pc y_fl f_executedCount f_lastCode f_lastDetail a_mem y_scr a_visitCount a_marks y_inp y_outp := by
  unfold wY_setZN_28
  refine ys_setFlag ?_
  exact h
theorem ys_11 {post : SY → Prop} {r on : Int32} (h : post (f_inSize, f_outSize, f_size, f_regA, f_regX, f_regS, f_pc, fg_sf (fg_sf y_fl 1 on) 2 (if r &&& 32768 = 0 then 0 else 1), f_executedCount, f_lastCode, f_lastDetail, a_mem, y_scr, a_visitCount, a_marks, y_inp, y_outp)) : wY_setZN_11 post r on 1 f_inSize f_outSize f_size f_regA f_regX f_regS f_pc y_fl f_executedCount f_lastCode f_lastDetail a_mem y_scr a_visitCount a_marks y_inp y_outp := by
  unfold wY_setZN_11
  refine ys_setFlag ?_
  refine ab_if (P := fun z => post (f_inSize, f_outSize, f_size, f_regA, f_regX, f_regS, f_pc, fg_sf (fg_sf y_fl 1 on) 2 z, f_executedCount, f_lastCode, f_lastDetail, a_mem, y_scr, a_visitCount, a_marks, y_inp, y_outp)) h (fun h => ?_) (fun h => ?_)
  · exact ys_28 h
  · exact ys_28 h
theorem ys_setZN {post : SY → Prop} {r : Int32} (h : post (f_inSize, f_outSize, f_size, f_regA, f_regX, f_regS, f_pc, fg_zn y_fl r, f_executedCount, f_lastCode, f_lastDetail, a_mem, y_scr, a_visitCount, a_marks, y_inp, y_outp)) : wpY_setZN post (f_inSize, f_outSize, f_size, f_regA, f_regX, f_regS, f_pc, y_fl, f_executedCount, f_lastCode, f_lastDetail, a_mem, y_scr, a_visitCount, a_marks, y_inp, y_outp) r := by
  refine ab_if (P := fun z => post (f_inSize, f_outSize, f_size, f_regA, f_regX, f_regS, f_pc, fg_sf (fg_sf y_fl 1 z) 2 (if r &&& 32768 = 0 then 0 else 1), f_executedCount, f_lastCode, f_lastDetail, a_mem, y_scr, a_visitCount, a_marks, y_inp, y_outp)) h (fun h => ?_) (fun h => ?_)
  · exact ys_11 h
  · exact ys_11 h
theorem ys_a57 {post : SY → Prop} {r on : Int32} (h : post (f_inSize, f_outSize, f_size, r, f_regX, f_regS, f_pc, fg_zn (fg_sf y_fl 8 on) r, f_executedCount, f_lastCode, f_lastDetail, a_mem, y_scr, a_visitCount, a_marks, y_inp, y_outp)) : wY_add_57 post r on 8 f_inSize f_outSize f_size f_regA f_regX f_regS f_pc y_fl f_executedCount f_lastCode f_lastDetail a_mem y_scr a_visitCount a_marks y_inp y_outp := by
  unfold wY_add_57
  refine ys_setFlag ?_
  refine ys_setZN ?_
  exact h
theorem ys_a28 {post : SY → Prop} {v r on : Int32} (h : post (f_inSize, f_outSize, f_size, r, f_regX, f_regS, f_pc, fg_zn (fg_sf (fg_sf y_fl 4 on) 8 (if (((f_regA ^^^ r) &&& (v ^^^ r)) &&& 32768) = 0 then 0 else 1)) r, f_executedCount, f_lastCode, f_lastDetail, a_mem, y_scr, a_visitCount, a_marks, y_inp, y_outp)) : wY_add_28 post v r on 4 f_inSize f_outSize f_size f_regA f_regX f_regS f_pc y_fl f_executedCount f_lastCode f_lastDetail a_mem y_scr a_visitCount a_marks y_inp y_outp := by
  unfold wY_add_28
  refine ys_setFlag ?_
  refine ab_if (P := fun z => post (f_inSize, f_outSize, f_size, r, f_regX, f_regS, f_pc, fg_zn (fg_sf (fg_sf y_fl 4 on) 8 z) r, f_executedCount, f_lastCode, f_lastDetail, a_mem, y_scr, a_visitCount, a_marks, y_inp, y_outp)) h (fun h => ?_) (fun h => ?_)
  · exact ys_a57 h
  · exact ys_a57 h
theorem ys_add {post : SY → Prop} {v c : Int32} (h : post (f_inSize, f_outSize, f_size, (f_regA + v + c) &&& 65535, f_regX, f_regS, f_pc, fg_zn (fg_sf (fg_sf y_fl 4 (if f_regA + v + c ≤ 65535 then 0 else 1)) 8 (if (((f_regA ^^^ ((f_regA + v + c) &&& 65535)) &&& (v ^^^ ((f_regA + v + c) &&& 65535))) &&& 32768) = 0 then 0 else 1)) ((f_regA + v + c) &&& 65535), f_executedCount, f_lastCode, f_lastDetail, a_mem, y_scr, a_visitCount, a_marks, y_inp, y_outp)) : wpY_add post (f_inSize, f_outSize, f_size, f_regA, f_regX, f_regS, f_pc, y_fl, f_executedCount, f_lastCode, f_lastDetail, a_mem, y_scr, a_visitCount, a_marks, y_inp, y_outp) v c := by
  refine nm_e (nm_e ?_)
  refine ab_if (P := fun z => post (f_inSize, f_outSize, f_size, (f_regA + v + c) &&& 65535, f_regX, f_regS, f_pc, fg_zn (fg_sf (fg_sf y_fl 4 z) 8 (if (((f_regA ^^^ ((f_regA + v + c) &&& 65535)) &&& (v ^^^ ((f_regA + v + c) &&& 65535))) &&& 32768) = 0 then 0 else 1)) ((f_regA + v + c) &&& 65535), f_executedCount, f_lastCode, f_lastDetail, a_mem, y_scr, a_visitCount, a_marks, y_inp, y_outp)) h (fun h => ?_) (fun h => ?_)
  · exact ys_a28 h
  · exact ys_a28 h
theorem ys_s57 {post : Int32 → SY → Prop} {r on : Int32} (h : post r (f_inSize, f_outSize, f_size, f_regA, f_regX, f_regS, f_pc, fg_zn (fg_sf y_fl 8 on) r, f_executedCount, f_lastCode, f_lastDetail, a_mem, y_scr, a_visitCount, a_marks, y_inp, y_outp)) : wY_subtract_57 post r on 8 f_inSize f_outSize f_size f_regA f_regX f_regS f_pc y_fl f_executedCount f_lastCode f_lastDetail a_mem y_scr a_visitCount a_marks y_inp y_outp := by
  unfold wY_subtract_57
  refine ys_setFlag ?_
  refine ys_setZN ?_
  exact h
theorem ys_s26 {post : Int32 → SY → Prop} {v r on : Int32} (h : post r (f_inSize, f_outSize, f_size, f_regA, f_regX, f_regS, f_pc, fg_zn (fg_sf (fg_sf y_fl 4 on) 8 (if (((f_regA ^^^ v) &&& (f_regA ^^^ r)) &&& 32768) = 0 then 0 else 1)) r, f_executedCount, f_lastCode, f_lastDetail, a_mem, y_scr, a_visitCount, a_marks, y_inp, y_outp)) : wY_subtract_26 post v r on 4 f_inSize f_outSize f_size f_regA f_regX f_regS f_pc y_fl f_executedCount f_lastCode f_lastDetail a_mem y_scr a_visitCount a_marks y_inp y_outp := by
  unfold wY_subtract_26
  refine ys_setFlag ?_
  refine ab_if (P := fun z => post r (f_inSize, f_outSize, f_size, f_regA, f_regX, f_regS, f_pc, fg_zn (fg_sf (fg_sf y_fl 4 on) 8 z) r, f_executedCount, f_lastCode, f_lastDetail, a_mem, y_scr, a_visitCount, a_marks, y_inp, y_outp)) h (fun h => ?_) (fun h => ?_)
  · exact ys_s57 h
  · exact ys_s57 h
theorem ys_sub {post : Int32 → SY → Prop} {v c : Int32} (h : post ((f_regA - v - c) &&& 65535) (f_inSize, f_outSize, f_size, f_regA, f_regX, f_regS, f_pc, fg_zn (fg_sf (fg_sf y_fl 4 (if 0 ≤ f_regA - v - c then 0 else 1)) 8 (if (((f_regA ^^^ v) &&& (f_regA ^^^ ((f_regA - v - c) &&& 65535))) &&& 32768) = 0 then 0 else 1)) ((f_regA - v - c) &&& 65535), f_executedCount, f_lastCode, f_lastDetail, a_mem, y_scr, a_visitCount, a_marks, y_inp, y_outp)) : wpY_subtract post (f_inSize, f_outSize, f_size, f_regA, f_regX, f_regS, f_pc, y_fl, f_executedCount, f_lastCode, f_lastDetail, a_mem, y_scr, a_visitCount, a_marks, y_inp, y_outp) v c := by
  refine nm_e (nm_e ?_)
  refine ab_if (P := fun z => post ((f_regA - v - c) &&& 65535) (f_inSize, f_outSize, f_size, f_regA, f_regX, f_regS, f_pc, fg_zn (fg_sf (fg_sf y_fl 4 z) 8 (if (((f_regA ^^^ v) &&& (f_regA ^^^ ((f_regA - v - c) &&& 65535))) &&& 32768) = 0 then 0 else 1)) ((f_regA - v - c) &&& 65535), f_executedCount, f_lastCode, f_lastDetail, a_mem, y_scr, a_visitCount, a_marks, y_inp, y_outp)) h (fun h => ?_) (fun h => ?_)
  · exact ys_s26 h
  · exact ys_s26 h
theorem ys_stop {post : Int32 → SY → Prop} {c d : Int32} (h : post c (f_inSize, f_outSize, f_size, f_regA, f_regX, f_regS, f_pc, y_fl, f_executedCount, f_lastCode, d, a_mem, y_scr, a_visitCount, a_marks, y_inp, y_outp)) : wpY_stopWith post (f_inSize, f_outSize, f_size, f_regA, f_regX, f_regS, f_pc, y_fl, f_executedCount, f_lastCode, f_lastDetail, a_mem, y_scr, a_visitCount, a_marks, y_inp, y_outp) c d := h
theorem ys_store {post : SY → Prop} {a : Nat} {x : Int32} (ha : a < 256) (hs : nI a < f_size) (h : post (f_inSize, f_outSize, f_size, f_regA, f_regX, f_regS, f_pc, y_fl, f_executedCount, f_lastCode, f_lastDetail, upd a_mem a x, y_scr, a_visitCount, a_marks, y_inp, y_outp)) : wpY_store post (f_inSize, f_outSize, f_size, f_regA, f_regX, f_regS, f_pc, y_fl, f_executedCount, f_lastCode, f_lastDetail, a_mem, y_scr, a_visitCount, a_marks, y_inp, y_outp) (nI a) x := by
  refine br_f (nI_pos (by omega)) ?_
  refine br_f (Int32.not_le.mpr hs) ?_
  refine And.intro (vp_in_nI ha (by decide)) ?_
  exact nm_r (e' := upd a_mem a x) (by rw [nI_clamp (by omega)]) h
/-! conditions -/
theorem ys_cond {post : Int32 → Prop} {k z n c v : Int32} (hz : fg_B z) (hn : fg_B n) (hc : fg_B c) (hv : fg_B v) (hf : y_fl = fg_L z n c v) (h : wY_condition_61 post k z n c v f_inSize f_outSize f_size f_regA f_regX f_regS f_pc y_fl f_executedCount f_lastCode f_lastDetail a_mem y_scr a_visitCount a_marks y_inp y_outp) : wpY_condition post (f_inSize, f_outSize, f_size, f_regA, f_regX, f_regS, f_pc, y_fl, f_executedCount, f_lastCode, f_lastDetail, a_mem, y_scr, a_visitCount, a_marks, y_inp, y_outp) k := by
  obtain ⟨e1, e2, e3, e4⟩ := fg_L1 hz hn hc hv
  rw [← hf] at e1 e2 e3 e4
  refine ab_bit (F := fun b => wY_condition_14 post k b f_inSize f_outSize f_size f_regA f_regX f_regS f_pc y_fl f_executedCount f_lastCode f_lastDetail a_mem y_scr a_visitCount a_marks y_inp y_outp) hz e1 ?_
  refine ab_bit (F := fun b => wY_condition_29 post k z b f_inSize f_outSize f_size f_regA f_regX f_regS f_pc y_fl f_executedCount f_lastCode f_lastDetail a_mem y_scr a_visitCount a_marks y_inp y_outp) hn e2 ?_
  refine ab_bit (F := fun b => wY_condition_44 post k z n b f_inSize f_outSize f_size f_regA f_regX f_regS f_pc y_fl f_executedCount f_lastCode f_lastDetail a_mem y_scr a_visitCount a_marks y_inp y_outp) hc e3 ?_
  exact ab_bit (F := fun b => wY_condition_61 post k z n c b f_inSize f_outSize f_size f_regA f_regX f_regS f_pc y_fl f_executedCount f_lastCode f_lastDetail a_mem y_scr a_visitCount a_marks y_inp y_outp) hv e4 h
theorem ys_cd20 {post : Int32 → Prop} {z n c v : Int32} (hz : fg_B z) (hn : fg_B n) (hc : fg_B c) (hv : fg_B v) (hf : y_fl = fg_L z n c v) (h : post z) : wpY_condition post (f_inSize, f_outSize, f_size, f_regA, f_regX, f_regS, f_pc, y_fl, f_executedCount, f_lastCode, f_lastDetail, a_mem, y_scr, a_visitCount, a_marks, y_inp, y_outp) 20 := by
  refine ys_cond hz hn hc hv hf ?_
  iterate 2 refine br_f (by decide) ?_
  refine br_t (by decide) ?_
  refine And.intro ?_ h
  rcases hz with rfl | rfl <;> rfl
theorem ys_cd21 {post : Int32 → Prop} {z n c v : Int32} (hz : fg_B z) (hn : fg_B n) (hc : fg_B c) (hv : fg_B v) (hf : y_fl = fg_L z n c v) (h : post (if z = 0 then 1 else 0)) : wpY_condition post (f_inSize, f_outSize, f_size, f_regA, f_regX, f_regS, f_pc, y_fl, f_executedCount, f_lastCode, f_lastDetail, a_mem, y_scr, a_visitCount, a_marks, y_inp, y_outp) 21 := by
  refine ys_cond hz hn hc hv hf ?_
  iterate 3 refine br_f (by decide) ?_
  refine br_t (by decide) ?_
  exact ab_if (P := post) h id id
theorem ys_cd22 {post : Int32 → Prop} {z n c v : Int32} (hz : fg_B z) (hn : fg_B n) (hc : fg_B c) (hv : fg_B v) (hf : y_fl = fg_L z n c v) (h : post c) : wpY_condition post (f_inSize, f_outSize, f_size, f_regA, f_regX, f_regS, f_pc, y_fl, f_executedCount, f_lastCode, f_lastDetail, a_mem, y_scr, a_visitCount, a_marks, y_inp, y_outp) 22 := by
  refine ys_cond hz hn hc hv hf ?_
  iterate 4 refine br_f (by decide) ?_
  refine br_t (by decide) ?_
  refine And.intro ?_ h
  rcases hc with rfl | rfl <;> rfl
theorem ys_cd23 {post : Int32 → Prop} {z n c v : Int32} (hz : fg_B z) (hn : fg_B n) (hc : fg_B c) (hv : fg_B v) (hf : y_fl = fg_L z n c v) (h : post (if c = 0 then 1 else 0)) : wpY_condition post (f_inSize, f_outSize, f_size, f_regA, f_regX, f_regS, f_pc, y_fl, f_executedCount, f_lastCode, f_lastDetail, a_mem, y_scr, a_visitCount, a_marks, y_inp, y_outp) 23 := by
  refine ys_cond hz hn hc hv hf ?_
  iterate 5 refine br_f (by decide) ?_
  refine br_t (by decide) ?_
  exact ab_if (P := post) h id id
theorem ys_cd24 {post : Int32 → Prop} {z n c v : Int32} (hz : fg_B z) (hn : fg_B n) (hc : fg_B c) (hv : fg_B v) (hf : y_fl = fg_L z n c v) (h : post n) : wpY_condition post (f_inSize, f_outSize, f_size, f_regA, f_regX, f_regS, f_pc, y_fl, f_executedCount, f_lastCode, f_lastDetail, a_mem, y_scr, a_visitCount, a_marks, y_inp, y_outp) 24 := by
  refine ys_cond hz hn hc hv hf ?_
  iterate 6 refine br_f (by decide) ?_
  refine br_t (by decide) ?_
  refine And.intro ?_ h
  rcases hn with rfl | rfl <;> rfl
theorem ys_cd25 {post : Int32 → Prop} {z n c v : Int32} (hz : fg_B z) (hn : fg_B n) (hc : fg_B c) (hv : fg_B v) (hf : y_fl = fg_L z n c v) (h : post (if n = 0 then 1 else 0)) : wpY_condition post (f_inSize, f_outSize, f_size, f_regA, f_regX, f_regS, f_pc, y_fl, f_executedCount, f_lastCode, f_lastDetail, a_mem, y_scr, a_visitCount, a_marks, y_inp, y_outp) 25 := by
  refine ys_cond hz hn hc hv hf ?_
  iterate 7 refine br_f (by decide) ?_
  refine br_t (by decide) ?_
  exact ab_if (P := post) h id id
theorem ys_cd26 {post : Int32 → Prop} {z n c v : Int32} (hz : fg_B z) (hn : fg_B n) (hc : fg_B c) (hv : fg_B v) (hf : y_fl = fg_L z n c v) (h : post v) : wpY_condition post (f_inSize, f_outSize, f_size, f_regA, f_regX, f_regS, f_pc, y_fl, f_executedCount, f_lastCode, f_lastDetail, a_mem, y_scr, a_visitCount, a_marks, y_inp, y_outp) 26 := by
  refine ys_cond hz hn hc hv hf ?_
  iterate 8 refine br_f (by decide) ?_
  refine br_t (by decide) ?_
  refine And.intro ?_ h
  rcases hv with rfl | rfl <;> rfl
theorem ys_cd27 {post : Int32 → Prop} {z n c v : Int32} (hz : fg_B z) (hn : fg_B n) (hc : fg_B c) (hv : fg_B v) (hf : y_fl = fg_L z n c v) (h : post (if v = 0 then 1 else 0)) : wpY_condition post (f_inSize, f_outSize, f_size, f_regA, f_regX, f_regS, f_pc, y_fl, f_executedCount, f_lastCode, f_lastDetail, a_mem, y_scr, a_visitCount, a_marks, y_inp, y_outp) 27 := by
  refine ys_cond hz hn hc hv hf ?_
  iterate 9 refine br_f (by decide) ?_
  refine br_t (by decide) ?_
  exact ab_if (P := post) h id id
theorem ys_cd28 {post : Int32 → Prop} {z n c v : Int32} (hz : fg_B z) (hn : fg_B n) (hc : fg_B c) (hv : fg_B v) (hf : y_fl = fg_L z n c v) (h : post (if n = v then 0 else 1)) : wpY_condition post (f_inSize, f_outSize, f_size, f_regA, f_regX, f_regS, f_pc, y_fl, f_executedCount, f_lastCode, f_lastDetail, a_mem, y_scr, a_visitCount, a_marks, y_inp, y_outp) 28 := by
  refine ys_cond hz hn hc hv hf ?_
  iterate 10 refine br_f (by decide) ?_
  refine br_t (by decide) ?_
  exact ab_if (P := post) h id id
theorem ys_cd29 {post : Int32 → Prop} {z n c v : Int32} (hz : fg_B z) (hn : fg_B n) (hc : fg_B c) (hv : fg_B v) (hf : y_fl = fg_L z n c v) (h : post (if n = v then 1 else 0)) : wpY_condition post (f_inSize, f_outSize, f_size, f_regA, f_regX, f_regS, f_pc, y_fl, f_executedCount, f_lastCode, f_lastDetail, a_mem, y_scr, a_visitCount, a_marks, y_inp, y_outp) 29 := by
  refine ys_cond hz hn hc hv hf ?_
  refine br_f (by decide) ?_
  refine br_t (by decide) ?_
  exact ab_if (P := post) h id id
theorem ys_opr {post : Int32 → SY → Prop} {F v c : Int32} (hB : fg_B c) (hc : y_fl &&& 4 = 0 ↔ c = 0) (h : wY_operate_13 post F v c f_inSize f_outSize f_size f_regA f_regX f_regS f_pc y_fl f_executedCount f_lastCode f_lastDetail a_mem y_scr a_visitCount a_marks y_inp y_outp) : wpY_operate post (f_inSize, f_outSize, f_size, f_regA, f_regX, f_regS, f_pc, y_fl, f_executedCount, f_lastCode, f_lastDetail, a_mem, y_scr, a_visitCount, a_marks, y_inp, y_outp) F v :=
  ab_bit (F := fun b => wY_operate_13 post F v b f_inSize f_outSize f_size f_regA f_regX f_regS f_pc y_fl f_executedCount f_lastCode f_lastDetail a_mem y_scr a_visitCount a_marks y_inp y_outp) hB hc h
theorem yo_0 {post : Int32 → SY → Prop} {v c : Int32}  (h : post 0 (f_inSize, f_outSize, f_size, v, f_regX, f_regS, f_pc, fg_zn y_fl v, f_executedCount, f_lastCode, f_lastDetail, a_mem, y_scr, a_visitCount, a_marks, y_inp, y_outp)) : wY_operate_13 post 0 v c f_inSize f_outSize f_size f_regA f_regX f_regS f_pc y_fl f_executedCount f_lastCode f_lastDetail a_mem y_scr a_visitCount a_marks y_inp y_outp := by
  iterate 2 refine br_f (by decide) ?_
  refine br_t (by decide) ?_
  refine ys_setZN ?_
  exact h
theorem yo_1 {post : Int32 → SY → Prop} {v c : Int32}  (h : post 0 (f_inSize, f_outSize, f_size, (f_regA + v + 0) &&& 65535, f_regX, f_regS, f_pc, fg_zn (fg_sf (fg_sf y_fl 4 (if f_regA + v + 0 ≤ 65535 then 0 else 1)) 8 (if (((f_regA ^^^ ((f_regA + v + 0) &&& 65535)) &&& (v ^^^ ((f_regA + v + 0) &&& 65535))) &&& 32768) = 0 then 0 else 1)) ((f_regA + v + 0) &&& 65535), f_executedCount, f_lastCode, f_lastDetail, a_mem, y_scr, a_visitCount, a_marks, y_inp, y_outp)) : wY_operate_13 post 1 v c f_inSize f_outSize f_size f_regA f_regX f_regS f_pc y_fl f_executedCount f_lastCode f_lastDetail a_mem y_scr a_visitCount a_marks y_inp y_outp := by
  iterate 3 refine br_f (by decide) ?_
  refine br_t (by decide) ?_
  refine ys_add ?_
  exact h
theorem yo_2 {post : Int32 → SY → Prop} {v c : Int32}  (h : post 0 (f_inSize, f_outSize, f_size, (f_regA + v + c) &&& 65535, f_regX, f_regS, f_pc, fg_zn (fg_sf (fg_sf y_fl 4 (if f_regA + v + c ≤ 65535 then 0 else 1)) 8 (if (((f_regA ^^^ ((f_regA + v + c) &&& 65535)) &&& (v ^^^ ((f_regA + v + c) &&& 65535))) &&& 32768) = 0 then 0 else 1)) ((f_regA + v + c) &&& 65535), f_executedCount, f_lastCode, f_lastDetail, a_mem, y_scr, a_visitCount, a_marks, y_inp, y_outp)) : wY_operate_13 post 2 v c f_inSize f_outSize f_size f_regA f_regX f_regS f_pc y_fl f_executedCount f_lastCode f_lastDetail a_mem y_scr a_visitCount a_marks y_inp y_outp := by
  iterate 4 refine br_f (by decide) ?_
  refine br_t (by decide) ?_
  refine ys_add ?_
  exact h
theorem yo_3 {post : Int32 → SY → Prop} {v c : Int32}  (h : post 0 (f_inSize, f_outSize, f_size, (f_regA - v - 0) &&& 65535, f_regX, f_regS, f_pc, fg_zn (fg_sf (fg_sf y_fl 4 (if 0 ≤ f_regA - v - 0 then 0 else 1)) 8 (if (((f_regA ^^^ v) &&& (f_regA ^^^ ((f_regA - v - 0) &&& 65535))) &&& 32768) = 0 then 0 else 1)) ((f_regA - v - 0) &&& 65535), f_executedCount, f_lastCode, f_lastDetail, a_mem, y_scr, a_visitCount, a_marks, y_inp, y_outp)) : wY_operate_13 post 3 v c f_inSize f_outSize f_size f_regA f_regX f_regS f_pc y_fl f_executedCount f_lastCode f_lastDetail a_mem y_scr a_visitCount a_marks y_inp y_outp := by
  iterate 5 refine br_f (by decide) ?_
  refine br_t (by decide) ?_
  refine ys_sub ?_
  exact h
theorem yo_4 {post : Int32 → SY → Prop} {v c : Int32}  (h : post 0 (f_inSize, f_outSize, f_size, (f_regA - v - c) &&& 65535, f_regX, f_regS, f_pc, fg_zn (fg_sf (fg_sf y_fl 4 (if 0 ≤ f_regA - v - c then 0 else 1)) 8 (if (((f_regA ^^^ v) &&& (f_regA ^^^ ((f_regA - v - c) &&& 65535))) &&& 32768) = 0 then 0 else 1)) ((f_regA - v - c) &&& 65535), f_executedCount, f_lastCode, f_lastDetail, a_mem, y_scr, a_visitCount, a_marks, y_inp, y_outp)) : wY_operate_13 post 4 v c f_inSize f_outSize f_size f_regA f_regX f_regS f_pc y_fl f_executedCount f_lastCode f_lastDetail a_mem y_scr a_visitCount a_marks y_inp y_outp := by
  iterate 6 refine br_f (by decide) ?_
  refine br_t (by decide) ?_
  refine ys_sub ?_
  exact h
theorem yo_5 {post : Int32 → SY → Prop} {v c : Int32}  (h : post 0 (f_inSize, f_outSize, f_size, f_regA, f_regX, f_regS, f_pc, fg_zn (fg_sf (fg_sf y_fl 4 (if 0 ≤ f_regA - v - 0 then 0 else 1)) 8 (if (((f_regA ^^^ v) &&& (f_regA ^^^ ((f_regA - v - 0) &&& 65535))) &&& 32768) = 0 then 0 else 1)) ((f_regA - v - 0) &&& 65535), f_executedCount, f_lastCode, f_lastDetail, a_mem, y_scr, a_visitCount, a_marks, y_inp, y_outp)) : wY_operate_13 post 5 v c f_inSize f_outSize f_size f_regA f_regX f_regS f_pc y_fl f_executedCount f_lastCode f_lastDetail a_mem y_scr a_visitCount a_marks y_inp y_outp := by
  iterate 7 refine br_f (by decide) ?_
  refine br_t (by decide) ?_
  refine ys_sub ?_
  exact h
theorem yo_6 {post : Int32 → SY → Prop} {v c : Int32}  (h : post 0 (f_inSize, f_outSize, f_size, f_regA &&& v, f_regX, f_regS, f_pc, fg_zn y_fl (f_regA &&& v), f_executedCount, f_lastCode, f_lastDetail, a_mem, y_scr, a_visitCount, a_marks, y_inp, y_outp)) : wY_operate_13 post 6 v c f_inSize f_outSize f_size f_regA f_regX f_regS f_pc y_fl f_executedCount f_lastCode f_lastDetail a_mem y_scr a_visitCount a_marks y_inp y_outp := by
  iterate 8 refine br_f (by decide) ?_
  refine br_t (by decide) ?_
  refine nm_e ?_
  refine ys_setZN ?_
  exact h
theorem yo_7 {post : Int32 → SY → Prop} {v c : Int32}  (h : post 0 (f_inSize, f_outSize, f_size, f_regA ||| v, f_regX, f_regS, f_pc, fg_zn y_fl (f_regA ||| v), f_executedCount, f_lastCode, f_lastDetail, a_mem, y_scr, a_visitCount, a_marks, y_inp, y_outp)) : wY_operate_13 post 7 v c f_inSize f_outSize f_size f_regA f_regX f_regS f_pc y_fl f_executedCount f_lastCode f_lastDetail a_mem y_scr a_visitCount a_marks y_inp y_outp := by
  iterate 9 refine br_f (by decide) ?_
  refine br_t (by decide) ?_
  refine nm_e ?_
  refine ys_setZN ?_
  exact h
theorem yo_8 {post : Int32 → SY → Prop} {v c : Int32}  (h : post 0 (f_inSize, f_outSize, f_size, f_regA ^^^ v, f_regX, f_regS, f_pc, fg_zn y_fl (f_regA ^^^ v), f_executedCount, f_lastCode, f_lastDetail, a_mem, y_scr, a_visitCount, a_marks, y_inp, y_outp)) : wY_operate_13 post 8 v c f_inSize f_outSize f_size f_regA f_regX f_regS f_pc y_fl f_executedCount f_lastCode f_lastDetail a_mem y_scr a_visitCount a_marks y_inp y_outp := by
  iterate 10 refine br_f (by decide) ?_
  refine br_t (by decide) ?_
  refine nm_e ?_
  refine ys_setZN ?_
  exact h
theorem yo_9T {post : Int32 → SY → Prop} {v c : Int32} (hv : v = 0) (h : post 10 (f_inSize, f_outSize, f_size, f_regA, f_regX, f_regS, f_pc, y_fl, f_executedCount, f_lastCode, 0, a_mem, y_scr, a_visitCount, a_marks, y_inp, y_outp)) : wY_operate_13 post 9 v c f_inSize f_outSize f_size f_regA f_regX f_regS f_pc y_fl f_executedCount f_lastCode f_lastDetail a_mem y_scr a_visitCount a_marks y_inp y_outp := by
  iterate 11 refine br_f (by decide) ?_
  refine br_t (by decide) ?_
  refine br_t hv ?_
  refine ys_stop ?_
  exact h
theorem yo_9 {post : Int32 → SY → Prop} {v c : Int32} (hv : ¬ v = 0) (h : post 0 (f_inSize, f_outSize, f_size, f_regA / v, f_regA - f_regA / v * v, f_regS, f_pc, fg_zn y_fl (f_regA / v), f_executedCount, f_lastCode, f_lastDetail, a_mem, y_scr, a_visitCount, a_marks, y_inp, y_outp)) : wY_operate_13 post 9 v c f_inSize f_outSize f_size f_regA f_regX f_regS f_pc y_fl f_executedCount f_lastCode f_lastDetail a_mem y_scr a_visitCount a_marks y_inp y_outp := by
  iterate 11 refine br_f (by decide) ?_
  refine br_t (by decide) ?_
  refine br_f hv ?_
  refine And.intro hv (nm_e ?_)
  refine And.intro hv (nm_e ?_)
  refine ys_setZN ?_
  exact h
theorem yo_10 {post : Int32 → SY → Prop} {v c : Int32}  (h : post 0 (f_inSize, f_outSize, f_size, f_regA, v, f_regS, f_pc, fg_zn y_fl v, f_executedCount, f_lastCode, f_lastDetail, a_mem, y_scr, a_visitCount, a_marks, y_inp, y_outp)) : wY_operate_13 post 10 v c f_inSize f_outSize f_size f_regA f_regX f_regS f_pc y_fl f_executedCount f_lastCode f_lastDetail a_mem y_scr a_visitCount a_marks y_inp y_outp := by
  refine br_f (by decide) ?_
  refine br_t (by decide) ?_
  refine ys_setZN ?_
  exact h
theorem ya_18 {post : Int32 → Prop} {p1 e : Int32} (he : (f_regS - 1) &&& 65535 = e) (h : post e) : wpY_addressOf post (f_inSize, f_outSize, f_size, f_regA, f_regX, f_regS, f_pc, y_fl, f_executedCount, f_lastCode, f_lastDetail, a_mem, y_scr, a_visitCount, a_marks, y_inp, y_outp) 18 p1 := by
  subst he
  exact br_t (by decide) h
theorem ya_37 {post : Int32 → Prop} {p1 e : Int32} (he : (f_regS - 1) &&& 65535 = e) (h : post e) : wpY_addressOf post (f_inSize, f_outSize, f_size, f_regA, f_regX, f_regS, f_pc, y_fl, f_executedCount, f_lastCode, f_lastDetail, a_mem, y_scr, a_visitCount, a_marks, y_inp, y_outp) 37 p1 := by
  subst he
  iterate 1 refine br_f (by decide) ?_
  exact br_t (by decide) h
theorem ya_39 {post : Int32 → Prop} {p1 e : Int32} (he : (f_regS - 1) &&& 65535 = e) (h : post e) : wpY_addressOf post (f_inSize, f_outSize, f_size, f_regA, f_regX, f_regS, f_pc, y_fl, f_executedCount, f_lastCode, f_lastDetail, a_mem, y_scr, a_visitCount, a_marks, y_inp, y_outp) 39 p1 := by
  subst he
  iterate 2 refine br_f (by decide) ?_
  exact br_t (by decide) h
theorem ya_19 {post : Int32 → Prop} {p1 e : Int32} (he : f_regS = e) (h : post e) : wpY_addressOf post (f_inSize, f_outSize, f_size, f_regA, f_regX, f_regS, f_pc, y_fl, f_executedCount, f_lastCode, f_lastDetail, a_mem, y_scr, a_visitCount, a_marks, y_inp, y_outp) 19 p1 := by
  subst he
  iterate 3 refine br_f (by decide) ?_
  exact br_t (by decide) h
theorem ya_38 {post : Int32 → Prop} {p1 e : Int32} (he : f_regS = e) (h : post e) : wpY_addressOf post (f_inSize, f_outSize, f_size, f_regA, f_regX, f_regS, f_pc, y_fl, f_executedCount, f_lastCode, f_lastDetail, a_mem, y_scr, a_visitCount, a_marks, y_inp, y_outp) 38 p1 := by
  subst he
  iterate 4 refine br_f (by decide) ?_
  exact br_t (by decide) h
theorem ya_40 {post : Int32 → Prop} {p1 e : Int32} (he : f_regS = e) (h : post e) : wpY_addressOf post (f_inSize, f_outSize, f_size, f_regA, f_regX, f_regS, f_pc, y_fl, f_executedCount, f_lastCode, f_lastDetail, a_mem, y_scr, a_visitCount, a_marks, y_inp, y_outp) 40 p1 := by
  subst he
  iterate 5 refine br_f (by decide) ?_
  exact br_t (by decide) h
theorem ya_32 {post : Int32 → Prop} {p1 e : Int32} (he : p1 = e) (h : post e) : wpY_addressOf post (f_inSize, f_outSize, f_size, f_regA, f_regX, f_regS, f_pc, y_fl, f_executedCount, f_lastCode, f_lastDetail, a_mem, y_scr, a_visitCount, a_marks, y_inp, y_outp) 32 p1 := by
  subst he
  iterate 6 refine br_f (by decide) ?_
  exact br_t (by decide) h
theorem ya_34 {post : Int32 → Prop} {p1 e : Int32} (he : p1 = e) (h : post e) : wpY_addressOf post (f_inSize, f_outSize, f_size, f_regA, f_regX, f_regS, f_pc, y_fl, f_executedCount, f_lastCode, f_lastDetail, a_mem, y_scr, a_visitCount, a_marks, y_inp, y_outp) 34 p1 := by
  subst he
  iterate 7 refine br_f (by decide) ?_
  exact br_t (by decide) h
theorem ya_35 {post : Int32 → Prop} {p1 e : Int32} (he : p1 = e) (h : post e) : wpY_addressOf post (f_inSize, f_outSize, f_size, f_regA, f_regX, f_regS, f_pc, y_fl, f_executedCount, f_lastCode, f_lastDetail, a_mem, y_scr, a_visitCount, a_marks, y_inp, y_outp) 35 p1 := by
  subst he
  iterate 8 refine br_f (by decide) ?_
  exact br_t (by decide) h
theorem ya_33 {post : Int32 → Prop} {p1 e : Int32} (he : (p1 + f_regX) &&& 65535 = e) (h : post e) : wpY_addressOf post (f_inSize, f_outSize, f_size, f_regA, f_regX, f_regS, f_pc, y_fl, f_executedCount, f_lastCode, f_lastDetail, a_mem, y_scr, a_visitCount, a_marks, y_inp, y_outp) 33 p1 := by
  subst he
  iterate 9 refine br_f (by decide) ?_
  exact br_t (by decide) h
theorem ya_36 {post : Int32 → Prop} {p1 e : Int32} (he : (p1 + f_regX) &&& 65535 = e) (h : post e) : wpY_addressOf post (f_inSize, f_outSize, f_size, f_regA, f_regX, f_regS, f_pc, y_fl, f_executedCount, f_lastCode, f_lastDetail, a_mem, y_scr, a_visitCount, a_marks, y_inp, y_outp) 36 p1 := by
  subst he
  iterate 10 refine br_f (by decide) ?_
  exact br_t (by decide) h
theorem ya_0 {post : Int32 → Prop} {p1 : Int32} (h : post (-1)) : wpY_addressOf post (f_inSize, f_outSize, f_size, f_regA, f_regX, f_regS, f_pc, y_fl, f_executedCount, f_lastCode, f_lastDetail, a_mem, y_scr, a_visitCount, a_marks, y_inp, y_outp) 0 p1 := by
  iterate 11 refine br_f (by decide) ?_
  refine br_t (by decide) ?_
  exact br_t (by decide) h
theorem ya_1 {post : Int32 → Prop} {p1 : Int32} (h : post (-1)) : wpY_addressOf post (f_inSize, f_outSize, f_size, f_regA, f_regX, f_regS, f_pc, y_fl, f_executedCount, f_lastCode, f_lastDetail, a_mem, y_scr, a_visitCount, a_marks, y_inp, y_outp) 1 p1 := by
  iterate 11 refine br_f (by decide) ?_
  refine br_t (by decide) ?_
  exact br_t (by decide) h
theorem ya_2 {post : Int32 → Prop} {p1 : Int32} (h : post (-1)) : wpY_addressOf post (f_inSize, f_outSize, f_size, f_regA, f_regX, f_regS, f_pc, y_fl, f_executedCount, f_lastCode, f_lastDetail, a_mem, y_scr, a_visitCount, a_marks, y_inp, y_outp) 2 p1 := by
  iterate 11 refine br_f (by decide) ?_
  refine br_t (by decide) ?_
  exact br_t (by decide) h
theorem ya_3 {post : Int32 → Prop} {p1 : Int32} (h : post (-1)) : wpY_addressOf post (f_inSize, f_outSize, f_size, f_regA, f_regX, f_regS, f_pc, y_fl, f_executedCount, f_lastCode, f_lastDetail, a_mem, y_scr, a_visitCount, a_marks, y_inp, y_outp) 3 p1 := by
  iterate 11 refine br_f (by decide) ?_
  refine br_t (by decide) ?_
  exact br_t (by decide) h
theorem ya_4 {post : Int32 → Prop} {p1 : Int32} (h : post (-1)) : wpY_addressOf post (f_inSize, f_outSize, f_size, f_regA, f_regX, f_regS, f_pc, y_fl, f_executedCount, f_lastCode, f_lastDetail, a_mem, y_scr, a_visitCount, a_marks, y_inp, y_outp) 4 p1 := by
  iterate 11 refine br_f (by decide) ?_
  refine br_t (by decide) ?_
  exact br_t (by decide) h
theorem ya_5 {post : Int32 → Prop} {p1 : Int32} (h : post (-1)) : wpY_addressOf post (f_inSize, f_outSize, f_size, f_regA, f_regX, f_regS, f_pc, y_fl, f_executedCount, f_lastCode, f_lastDetail, a_mem, y_scr, a_visitCount, a_marks, y_inp, y_outp) 5 p1 := by
  iterate 11 refine br_f (by decide) ?_
  refine br_t (by decide) ?_
  exact br_t (by decide) h
theorem ya_6 {post : Int32 → Prop} {p1 : Int32} (h : post (-1)) : wpY_addressOf post (f_inSize, f_outSize, f_size, f_regA, f_regX, f_regS, f_pc, y_fl, f_executedCount, f_lastCode, f_lastDetail, a_mem, y_scr, a_visitCount, a_marks, y_inp, y_outp) 6 p1 := by
  iterate 11 refine br_f (by decide) ?_
  refine br_t (by decide) ?_
  exact br_t (by decide) h
theorem ya_7 {post : Int32 → Prop} {p1 : Int32} (h : post (-1)) : wpY_addressOf post (f_inSize, f_outSize, f_size, f_regA, f_regX, f_regS, f_pc, y_fl, f_executedCount, f_lastCode, f_lastDetail, a_mem, y_scr, a_visitCount, a_marks, y_inp, y_outp) 7 p1 := by
  iterate 11 refine br_f (by decide) ?_
  refine br_t (by decide) ?_
  exact br_t (by decide) h
theorem ya_8 {post : Int32 → Prop} {p1 : Int32} (h : post (-1)) : wpY_addressOf post (f_inSize, f_outSize, f_size, f_regA, f_regX, f_regS, f_pc, y_fl, f_executedCount, f_lastCode, f_lastDetail, a_mem, y_scr, a_visitCount, a_marks, y_inp, y_outp) 8 p1 := by
  iterate 11 refine br_f (by decide) ?_
  refine br_t (by decide) ?_
  exact br_t (by decide) h
theorem ya_9 {post : Int32 → Prop} {p1 : Int32} (h : post (-1)) : wpY_addressOf post (f_inSize, f_outSize, f_size, f_regA, f_regX, f_regS, f_pc, y_fl, f_executedCount, f_lastCode, f_lastDetail, a_mem, y_scr, a_visitCount, a_marks, y_inp, y_outp) 9 p1 := by
  iterate 11 refine br_f (by decide) ?_
  refine br_t (by decide) ?_
  exact br_t (by decide) h
theorem ya_10 {post : Int32 → Prop} {p1 : Int32} (h : post (-1)) : wpY_addressOf post (f_inSize, f_outSize, f_size, f_regA, f_regX, f_regS, f_pc, y_fl, f_executedCount, f_lastCode, f_lastDetail, a_mem, y_scr, a_visitCount, a_marks, y_inp, y_outp) 10 p1 := by
  iterate 11 refine br_f (by decide) ?_
  refine br_t (by decide) ?_
  exact br_t (by decide) h
theorem ya_11 {post : Int32 → Prop} {p1 : Int32} (h : post (-1)) : wpY_addressOf post (f_inSize, f_outSize, f_size, f_regA, f_regX, f_regS, f_pc, y_fl, f_executedCount, f_lastCode, f_lastDetail, a_mem, y_scr, a_visitCount, a_marks, y_inp, y_outp) 11 p1 := by
  iterate 11 refine br_f (by decide) ?_
  refine br_t (by decide) ?_
  exact br_t (by decide) h
theorem ya_12 {post : Int32 → Prop} {p1 : Int32} (h : post (-1)) : wpY_addressOf post (f_inSize, f_outSize, f_size, f_regA, f_regX, f_regS, f_pc, y_fl, f_executedCount, f_lastCode, f_lastDetail, a_mem, y_scr, a_visitCount, a_marks, y_inp, y_outp) 12 p1 := by
  iterate 11 refine br_f (by decide) ?_
  refine br_t (by decide) ?_
  exact br_t (by decide) h
theorem ya_13 {post : Int32 → Prop} {p1 : Int32} (h : post (-1)) : wpY_addressOf post (f_inSize, f_outSize, f_size, f_regA, f_regX, f_regS, f_pc, y_fl, f_executedCount, f_lastCode, f_lastDetail, a_mem, y_scr, a_visitCount, a_marks, y_inp, y_outp) 13 p1 := by
  iterate 11 refine br_f (by decide) ?_
  refine br_t (by decide) ?_
  exact br_t (by decide) h
theorem ya_14 {post : Int32 → Prop} {p1 : Int32} (h : post (-1)) : wpY_addressOf post (f_inSize, f_outSize, f_size, f_regA, f_regX, f_regS, f_pc, y_fl, f_executedCount, f_lastCode, f_lastDetail, a_mem, y_scr, a_visitCount, a_marks, y_inp, y_outp) 14 p1 := by
  iterate 11 refine br_f (by decide) ?_
  refine br_t (by decide) ?_
  exact br_t (by decide) h
theorem ya_15 {post : Int32 → Prop} {p1 : Int32} (h : post (-1)) : wpY_addressOf post (f_inSize, f_outSize, f_size, f_regA, f_regX, f_regS, f_pc, y_fl, f_executedCount, f_lastCode, f_lastDetail, a_mem, y_scr, a_visitCount, a_marks, y_inp, y_outp) 15 p1 := by
  iterate 11 refine br_f (by decide) ?_
  refine br_t (by decide) ?_
  exact br_t (by decide) h
theorem ya_16 {post : Int32 → Prop} {p1 : Int32} (h : post (-1)) : wpY_addressOf post (f_inSize, f_outSize, f_size, f_regA, f_regX, f_regS, f_pc, y_fl, f_executedCount, f_lastCode, f_lastDetail, a_mem, y_scr, a_visitCount, a_marks, y_inp, y_outp) 16 p1 := by
  iterate 11 refine br_f (by decide) ?_
  refine br_t (by decide) ?_
  exact br_t (by decide) h
theorem ya_17 {post : Int32 → Prop} {p1 : Int32} (h : post (-1)) : wpY_addressOf post (f_inSize, f_outSize, f_size, f_regA, f_regX, f_regS, f_pc, y_fl, f_executedCount, f_lastCode, f_lastDetail, a_mem, y_scr, a_visitCount, a_marks, y_inp, y_outp) 17 p1 := by
  iterate 11 refine br_f (by decide) ?_
  refine br_t (by decide) ?_
  exact br_t (by decide) h
theorem ya_20 {post : Int32 → Prop} {p1 : Int32} (h : post (-1)) : wpY_addressOf post (f_inSize, f_outSize, f_size, f_regA, f_regX, f_regS, f_pc, y_fl, f_executedCount, f_lastCode, f_lastDetail, a_mem, y_scr, a_visitCount, a_marks, y_inp, y_outp) 20 p1 := by
  iterate 11 refine br_f (by decide) ?_
  refine br_t (by decide) ?_
  exact br_t (by decide) h
theorem ya_21 {post : Int32 → Prop} {p1 : Int32} (h : post (-1)) : wpY_addressOf post (f_inSize, f_outSize, f_size, f_regA, f_regX, f_regS, f_pc, y_fl, f_executedCount, f_lastCode, f_lastDetail, a_mem, y_scr, a_visitCount, a_marks, y_inp, y_outp) 21 p1 := by
  iterate 11 refine br_f (by decide) ?_
  refine br_t (by decide) ?_
  exact br_t (by decide) h
theorem ya_22 {post : Int32 → Prop} {p1 : Int32} (h : post (-1)) : wpY_addressOf post (f_inSize, f_outSize, f_size, f_regA, f_regX, f_regS, f_pc, y_fl, f_executedCount, f_lastCode, f_lastDetail, a_mem, y_scr, a_visitCount, a_marks, y_inp, y_outp) 22 p1 := by
  iterate 11 refine br_f (by decide) ?_
  refine br_t (by decide) ?_
  exact br_t (by decide) h
theorem ya_23 {post : Int32 → Prop} {p1 : Int32} (h : post (-1)) : wpY_addressOf post (f_inSize, f_outSize, f_size, f_regA, f_regX, f_regS, f_pc, y_fl, f_executedCount, f_lastCode, f_lastDetail, a_mem, y_scr, a_visitCount, a_marks, y_inp, y_outp) 23 p1 := by
  iterate 11 refine br_f (by decide) ?_
  refine br_t (by decide) ?_
  exact br_t (by decide) h
theorem ya_24 {post : Int32 → Prop} {p1 : Int32} (h : post (-1)) : wpY_addressOf post (f_inSize, f_outSize, f_size, f_regA, f_regX, f_regS, f_pc, y_fl, f_executedCount, f_lastCode, f_lastDetail, a_mem, y_scr, a_visitCount, a_marks, y_inp, y_outp) 24 p1 := by
  iterate 11 refine br_f (by decide) ?_
  refine br_t (by decide) ?_
  exact br_t (by decide) h
theorem ya_25 {post : Int32 → Prop} {p1 : Int32} (h : post (-1)) : wpY_addressOf post (f_inSize, f_outSize, f_size, f_regA, f_regX, f_regS, f_pc, y_fl, f_executedCount, f_lastCode, f_lastDetail, a_mem, y_scr, a_visitCount, a_marks, y_inp, y_outp) 25 p1 := by
  iterate 11 refine br_f (by decide) ?_
  refine br_t (by decide) ?_
  exact br_t (by decide) h
theorem ya_26 {post : Int32 → Prop} {p1 : Int32} (h : post (-1)) : wpY_addressOf post (f_inSize, f_outSize, f_size, f_regA, f_regX, f_regS, f_pc, y_fl, f_executedCount, f_lastCode, f_lastDetail, a_mem, y_scr, a_visitCount, a_marks, y_inp, y_outp) 26 p1 := by
  iterate 11 refine br_f (by decide) ?_
  refine br_t (by decide) ?_
  exact br_t (by decide) h
theorem ya_27 {post : Int32 → Prop} {p1 : Int32} (h : post (-1)) : wpY_addressOf post (f_inSize, f_outSize, f_size, f_regA, f_regX, f_regS, f_pc, y_fl, f_executedCount, f_lastCode, f_lastDetail, a_mem, y_scr, a_visitCount, a_marks, y_inp, y_outp) 27 p1 := by
  iterate 11 refine br_f (by decide) ?_
  refine br_t (by decide) ?_
  exact br_t (by decide) h
theorem ya_28 {post : Int32 → Prop} {p1 : Int32} (h : post (-1)) : wpY_addressOf post (f_inSize, f_outSize, f_size, f_regA, f_regX, f_regS, f_pc, y_fl, f_executedCount, f_lastCode, f_lastDetail, a_mem, y_scr, a_visitCount, a_marks, y_inp, y_outp) 28 p1 := by
  iterate 11 refine br_f (by decide) ?_
  refine br_t (by decide) ?_
  exact br_t (by decide) h
theorem ya_29 {post : Int32 → Prop} {p1 : Int32} (h : post (-1)) : wpY_addressOf post (f_inSize, f_outSize, f_size, f_regA, f_regX, f_regS, f_pc, y_fl, f_executedCount, f_lastCode, f_lastDetail, a_mem, y_scr, a_visitCount, a_marks, y_inp, y_outp) 29 p1 := by
  iterate 11 refine br_f (by decide) ?_
  refine br_t (by decide) ?_
  exact br_t (by decide) h
theorem ya_30 {post : Int32 → Prop} {p1 : Int32} (h : post (-1)) : wpY_addressOf post (f_inSize, f_outSize, f_size, f_regA, f_regX, f_regS, f_pc, y_fl, f_executedCount, f_lastCode, f_lastDetail, a_mem, y_scr, a_visitCount, a_marks, y_inp, y_outp) 30 p1 := by
  iterate 11 refine br_f (by decide) ?_
  refine br_t (by decide) ?_
  exact br_t (by decide) h
theorem ya_31 {post : Int32 → Prop} {p1 : Int32} (h : post (-1)) : wpY_addressOf post (f_inSize, f_outSize, f_size, f_regA, f_regX, f_regS, f_pc, y_fl, f_executedCount, f_lastCode, f_lastDetail, a_mem, y_scr, a_visitCount, a_marks, y_inp, y_outp) 31 p1 := by
  iterate 11 refine br_f (by decide) ?_
  refine br_t (by decide) ?_
  exact br_t (by decide) h
theorem ya_ill {post : Int32 → Prop} {p1 : Int32} {o : Nat} (h41 : 41 ≤ o) (ho : o < 256) (hl : o < 64 ∨ 107 < o) (h : post (-1)) : wpY_addressOf post (f_inSize, f_outSize, f_size, f_regA, f_regX, f_regS, f_pc, y_fl, f_executedCount, f_lastCode, f_lastDetail, a_mem, y_scr, a_visitCount, a_marks, y_inp, y_outp) (nI o) p1 := by
  have q : ∀ b, b ≤ 40 → ¬ nI o = nI b := fun b hb => ab_nel (by omega) (by omega) (by omega)
  refine br_f (q 18 (by decide)) ?_
  refine br_f (q 37 (by decide)) ?_
  refine br_f (q 39 (by decide)) ?_
  refine br_f (q 19 (by decide)) ?_
  refine br_f (q 38 (by decide)) ?_
  refine br_f (q 40 (by decide)) ?_
  refine br_f (q 32 (by decide)) ?_
  refine br_f (q 34 (by decide)) ?_
  refine br_f (q 35 (by decide)) ?_
  refine br_f (q 33 (by decide)) ?_
  refine br_f (q 36 (by decide)) ?_
  have W : wY_addressOf_114 post (nI o) p1 f_inSize f_outSize f_size f_regA f_regX f_regS f_pc y_fl f_executedCount f_lastCode f_lastDetail a_mem y_scr a_visitCount a_marks y_inp y_outp := by
    refine pk_lt o 64 (fun l => h) (fun l => ?_)
    refine pk_lt 107 o (fun l2 => h) (fun l2 => ?_)
    omega
  refine pk_lt o 64 (fun l => W) (fun l => ?_)
  refine pk_lt 107 o (fun l2 => W) (fun l2 => ?_)
  omega
theorem ya_op1 {post : Int32 → Prop} {p1 e : Int32} {o : Nat} (h64 : 64 ≤ o) (h107 : o ≤ 107) (hm : o % 4 = 1) (he : p1 = e) (h : post e) : wpY_addressOf post (f_inSize, f_outSize, f_size, f_regA, f_regX, f_regS, f_pc, y_fl, f_executedCount, f_lastCode, f_lastDetail, a_mem, y_scr, a_visitCount, a_marks, y_inp, y_outp) (nI o) p1 := by
  subst he
  have q : ∀ b, b ≤ 40 → ¬ nI o = nI b := fun b hb => ab_nel (by omega) (by omega) (by omega)
  refine br_f (q 18 (by decide)) ?_
  refine br_f (q 37 (by decide)) ?_
  refine br_f (q 39 (by decide)) ?_
  refine br_f (q 19 (by decide)) ?_
  refine br_f (q 38 (by decide)) ?_
  refine br_f (q 40 (by decide)) ?_
  refine br_f (q 32 (by decide)) ?_
  refine br_f (q 34 (by decide)) ?_
  refine br_f (q 35 (by decide)) ?_
  refine br_f (q 33 (by decide)) ?_
  refine br_f (q 36 (by decide)) ?_
  have e3 : nI o &&& 3 = nI (o % 4) := pk_andN (by omega) 2 (by decide)
  rw [hm] at e3
  refine br_f (nI_nlt (b := 64) h64 (by omega)) ?_
  refine br_f (nI_nlt (a := 107) h107 (by decide)) ?_
  exact br_t e3 h
theorem ya_op2 {post : Int32 → Prop} {p1 e : Int32} {o : Nat} (h64 : 64 ≤ o) (h107 : o ≤ 107) (hm : o % 4 = 2) (he : (p1 + f_regX) &&& 65535 = e) (h : post e) : wpY_addressOf post (f_inSize, f_outSize, f_size, f_regA, f_regX, f_regS, f_pc, y_fl, f_executedCount, f_lastCode, f_lastDetail, a_mem, y_scr, a_visitCount, a_marks, y_inp, y_outp) (nI o) p1 := by
  subst he
  have q : ∀ b, b ≤ 40 → ¬ nI o = nI b := fun b hb => ab_nel (by omega) (by omega) (by omega)
  refine br_f (q 18 (by decide)) ?_
  refine br_f (q 37 (by decide)) ?_
  refine br_f (q 39 (by decide)) ?_
  refine br_f (q 19 (by decide)) ?_
  refine br_f (q 38 (by decide)) ?_
  refine br_f (q 40 (by decide)) ?_
  refine br_f (q 32 (by decide)) ?_
  refine br_f (q 34 (by decide)) ?_
  refine br_f (q 35 (by decide)) ?_
  refine br_f (q 33 (by decide)) ?_
  refine br_f (q 36 (by decide)) ?_
  have e3 : nI o &&& 3 = nI (o % 4) := pk_andN (by omega) 2 (by decide)
  rw [hm] at e3
  refine br_f (nI_nlt (b := 64) h64 (by omega)) ?_
  refine br_f (nI_nlt (a := 107) h107 (by decide)) ?_
  refine br_f (by rw [e3]; decide) ?_
  unfold wY_addressOf_114
  refine br_f (nI_nlt (b := 64) h64 (by omega)) ?_
  refine br_f (nI_nlt (a := 107) h107 (by decide)) ?_
  exact br_t e3 h
theorem ya_op0 {post : Int32 → Prop} {p1 e : Int32} {o : Nat} (h64 : 64 ≤ o) (h107 : o ≤ 107) (hm : o % 4 = 0) (he : -1 = e) (h : post e) : wpY_addressOf post (f_inSize, f_outSize, f_size, f_regA, f_regX, f_regS, f_pc, y_fl, f_executedCount, f_lastCode, f_lastDetail, a_mem, y_scr, a_visitCount, a_marks, y_inp, y_outp) (nI o) p1 := by
  subst he
  have q : ∀ b, b ≤ 40 → ¬ nI o = nI b := fun b hb => ab_nel (by omega) (by omega) (by omega)
  refine br_f (q 18 (by decide)) ?_
  refine br_f (q 37 (by decide)) ?_
  refine br_f (q 39 (by decide)) ?_
  refine br_f (q 19 (by decide)) ?_
  refine br_f (q 38 (by decide)) ?_
  refine br_f (q 40 (by decide)) ?_
  refine br_f (q 32 (by decide)) ?_
  refine br_f (q 34 (by decide)) ?_
  refine br_f (q 35 (by decide)) ?_
  refine br_f (q 33 (by decide)) ?_
  refine br_f (q 36 (by decide)) ?_
  have e3 : nI o &&& 3 = nI (o % 4) := pk_andN (by omega) 2 (by decide)
  rw [hm] at e3
  refine br_f (nI_nlt (b := 64) h64 (by omega)) ?_
  refine br_f (nI_nlt (a := 107) h107 (by decide)) ?_
  refine br_f (by rw [e3]; decide) ?_
  unfold wY_addressOf_114
  refine br_f (nI_nlt (b := 64) h64 (by omega)) ?_
  refine br_f (nI_nlt (a := 107) h107 (by decide)) ?_
  exact br_f (by rw [e3]; decide) h
theorem ya_op3 {post : Int32 → Prop} {p1 e : Int32} {o : Nat} (h64 : 64 ≤ o) (h107 : o ≤ 107) (hm : o % 4 = 3) (he : -1 = e) (h : post e) : wpY_addressOf post (f_inSize, f_outSize, f_size, f_regA, f_regX, f_regS, f_pc, y_fl, f_executedCount, f_lastCode, f_lastDetail, a_mem, y_scr, a_visitCount, a_marks, y_inp, y_outp) (nI o) p1 := by
  subst he
  have q : ∀ b, b ≤ 40 → ¬ nI o = nI b := fun b hb => ab_nel (by omega) (by omega) (by omega)
  refine br_f (q 18 (by decide)) ?_
  refine br_f (q 37 (by decide)) ?_
  refine br_f (q 39 (by decide)) ?_
  refine br_f (q 19 (by decide)) ?_
  refine br_f (q 38 (by decide)) ?_
  refine br_f (q 40 (by decide)) ?_
  refine br_f (q 32 (by decide)) ?_
  refine br_f (q 34 (by decide)) ?_
  refine br_f (q 35 (by decide)) ?_
  refine br_f (q 33 (by decide)) ?_
  refine br_f (q 36 (by decide)) ?_
  have e3 : nI o &&& 3 = nI (o % 4) := pk_andN (by omega) 2 (by decide)
  rw [hm] at e3
  refine br_f (nI_nlt (b := 64) h64 (by omega)) ?_
  refine br_f (nI_nlt (a := 107) h107 (by decide)) ?_
  refine br_f (by rw [e3]; decide) ?_
  unfold wY_addressOf_114
  refine br_f (nI_nlt (b := 64) h64 (by omega)) ?_
  refine br_f (nI_nlt (a := 107) h107 (by decide)) ?_
  exact br_f (by rw [e3]; decide) h
end YS
end
section
/-! Y's step (printed by gen10.py) -/
section YT
variable {f_inSize f_outSize f_size f_regA f_regX f_regS f_pc y_fl f_executedCount f_lastCode f_lastDetail : Int32} {a_mem y_scr a_visitCount a_marks y_inp y_outp : Nat → Int32}
theorem yt_none {post : Int32 → SY → Prop} {p wn : Nat} {O : Int32} (hw : wn < 65536) (hO : nI (wn / 256) = O) (hz : -1 < f_size) (hadr : ∀ P : Int32 → Prop, P (-1) → wpY_addressOf P (f_inSize, f_outSize, f_size, f_regA, f_regX, f_regS, f_pc, y_fl, f_executedCount, f_lastCode, f_lastDetail, a_mem, y_scr, a_visitCount, a_marks, y_inp, y_outp) O (nI (wn % 256))) (h : wY_step_56 post (nI p) (nI wn) O (nI (wn % 256)) (-1) 0 f_inSize f_outSize f_size f_regA f_regX f_regS f_pc y_fl f_executedCount f_lastCode f_lastDetail a_mem y_scr a_visitCount a_marks y_inp y_outp) : wpY_step post (f_inSize, f_outSize, f_size, f_regA, f_regX, f_regS, f_pc, y_fl, f_executedCount, f_lastCode, f_lastDetail, a_mem, y_scr, a_visitCount, a_marks, y_inp, y_outp) (nI p) (nI wn) := by
  refine nm_r ((dc_o hw).trans hO) (nm_r (dc_n hw) ?_)
  refine hadr _ ?_
  refine br_t hz ?_
  exact br_t (by decide) h
theorem yt_addr {post : Int32 → SY → Prop} {p wn a : Nat} {O : Int32} (hw : wn < 65536) (hO : nI (wn / 256) = O) (ha : a < 256) (hs : nI a < f_size) (hadr : ∀ P : Int32 → Prop, P (nI a) → wpY_addressOf P (f_inSize, f_outSize, f_size, f_regA, f_regX, f_regS, f_pc, y_fl, f_executedCount, f_lastCode, f_lastDetail, a_mem, y_scr, a_visitCount, a_marks, y_inp, y_outp) O (nI (wn % 256))) (h : wY_step_56 post (nI p) (nI wn) O (nI (wn % 256)) (nI a) (a_mem a) f_inSize f_outSize f_size f_regA f_regX f_regS f_pc y_fl f_executedCount f_lastCode f_lastDetail a_mem y_scr a_visitCount a_marks y_inp y_outp) : wpY_step post (f_inSize, f_outSize, f_size, f_regA, f_regX, f_regS, f_pc, y_fl, f_executedCount, f_lastCode, f_lastDetail, a_mem, y_scr, a_visitCount, a_marks, y_inp, y_outp) (nI p) (nI wn) := by
  refine nm_r ((dc_o hw).trans hO) (nm_r (dc_n hw) ?_)
  refine hadr _ ?_
  refine br_t hs ?_
  refine br_f (nI_pos (by omega)) ?_
  refine And.intro (vp_in_nI ha (by decide)) ?_
  exact nm_r (e' := a_mem a) (by rw [nI_clamp (by omega)]) h
theorem yt_trap {post : Int32 → SY → Prop} {p wn : Nat} {O e : Int32} (hw : wn < 65536) (hO : nI (wn / 256) = O) (hs : ¬ e < f_size) (hadr : ∀ P : Int32 → Prop, P e → wpY_addressOf P (f_inSize, f_outSize, f_size, f_regA, f_regX, f_regS, f_pc, y_fl, f_executedCount, f_lastCode, f_lastDetail, a_mem, y_scr, a_visitCount, a_marks, y_inp, y_outp) O (nI (wn % 256))) (h : post 9 (f_inSize, f_outSize, f_size, f_regA, f_regX, f_regS, f_pc, y_fl, f_executedCount, f_lastCode, e, a_mem, y_scr, a_visitCount, a_marks, y_inp, y_outp)) : wpY_step post (f_inSize, f_outSize, f_size, f_regA, f_regX, f_regS, f_pc, y_fl, f_executedCount, f_lastCode, f_lastDetail, a_mem, y_scr, a_visitCount, a_marks, y_inp, y_outp) (nI p) (nI wn) := by
  refine nm_r ((dc_o hw).trans hO) (nm_r (dc_n hw) ?_)
  refine hadr _ ?_
  refine br_f hs ?_
  exact ys_stop h
theorem y5_0 {post : Int32 → SY → Prop} {p : Nat} {x2 x4 x5 x6 : Int32}  (h : post 2 (f_inSize, f_outSize, f_size, f_regA, f_regX, f_regS, f_pc, y_fl, f_executedCount, f_lastCode, 0, a_mem, y_scr, a_visitCount, a_marks, y_inp, y_outp)) : wY_step_56 post (nI p) x2 0 x4 x5 x6 f_inSize f_outSize f_size f_regA f_regX f_regS f_pc y_fl f_executedCount f_lastCode f_lastDetail a_mem y_scr a_visitCount a_marks y_inp y_outp := by
  refine nm_r (e' := nI (p + 1)) (nI_1 p) ?_
  iterate 2 refine br_f (by decide) ?_
  refine br_t (by decide) ?_
  refine ys_stop ?_
  exact h
theorem y5_1 {post : Int32 → SY → Prop} {p : Nat} {x2 x4 x5 x6 : Int32}  (h : post 0 (f_inSize, f_outSize, f_size, f_regA, f_regX, f_regS, nI (p + 1), y_fl, f_executedCount, f_lastCode, f_lastDetail, a_mem, y_scr, a_visitCount, a_marks, y_inp, y_outp)) : wY_step_56 post (nI p) x2 1 x4 x5 x6 f_inSize f_outSize f_size f_regA f_regX f_regS f_pc y_fl f_executedCount f_lastCode f_lastDetail a_mem y_scr a_visitCount a_marks y_inp y_outp := by
  refine nm_r (e' := nI (p + 1)) (nI_1 p) ?_
  iterate 3 refine br_f (by decide) ?_
  refine br_t (by decide) ?_
  exact h
theorem y5_2 {post : Int32 → SY → Prop} {p : Nat} {x2 x4 x5 x6 : Int32}  (h : post 0 (f_inSize, f_outSize, f_size, f_regA, f_regA, f_regS, nI (p + 1), y_fl, f_executedCount, f_lastCode, f_lastDetail, a_mem, y_scr, a_visitCount, a_marks, y_inp, y_outp)) : wY_step_56 post (nI p) x2 2 x4 x5 x6 f_inSize f_outSize f_size f_regA f_regX f_regS f_pc y_fl f_executedCount f_lastCode f_lastDetail a_mem y_scr a_visitCount a_marks y_inp y_outp := by
  refine nm_r (e' := nI (p + 1)) (nI_1 p) ?_
  iterate 4 refine br_f (by decide) ?_
  refine br_t (by decide) ?_
  exact h
theorem y5_3 {post : Int32 → SY → Prop} {p : Nat} {x2 x4 x5 x6 : Int32}  (h : post 0 (f_inSize, f_outSize, f_size, f_regA, f_regX, f_regX, nI (p + 1), y_fl, f_executedCount, f_lastCode, f_lastDetail, a_mem, y_scr, a_visitCount, a_marks, y_inp, y_outp)) : wY_step_56 post (nI p) x2 3 x4 x5 x6 f_inSize f_outSize f_size f_regA f_regX f_regS f_pc y_fl f_executedCount f_lastCode f_lastDetail a_mem y_scr a_visitCount a_marks y_inp y_outp := by
  refine nm_r (e' := nI (p + 1)) (nI_1 p) ?_
  iterate 5 refine br_f (by decide) ?_
  refine br_t (by decide) ?_
  exact h
theorem y5_4 {post : Int32 → SY → Prop} {p : Nat} {x2 x4 x5 x6 : Int32}  (h : post 0 (f_inSize, f_outSize, f_size, f_regA, f_regS, f_regS, nI (p + 1), y_fl, f_executedCount, f_lastCode, f_lastDetail, a_mem, y_scr, a_visitCount, a_marks, y_inp, y_outp)) : wY_step_56 post (nI p) x2 4 x4 x5 x6 f_inSize f_outSize f_size f_regA f_regX f_regS f_pc y_fl f_executedCount f_lastCode f_lastDetail a_mem y_scr a_visitCount a_marks y_inp y_outp := by
  refine nm_r (e' := nI (p + 1)) (nI_1 p) ?_
  iterate 6 refine br_f (by decide) ?_
  refine br_t (by decide) ?_
  exact h
theorem y5_5 {post : Int32 → SY → Prop} {p : Nat} {x2 x4 x5 x6 : Int32}  (h : post 0 (f_inSize, f_outSize, f_size, f_regA, (f_regX + 1) &&& 65535, f_regS, nI (p + 1), fg_zn y_fl ((f_regX + 1) &&& 65535), f_executedCount, f_lastCode, f_lastDetail, a_mem, y_scr, a_visitCount, a_marks, y_inp, y_outp)) : wY_step_56 post (nI p) x2 5 x4 x5 x6 f_inSize f_outSize f_size f_regA f_regX f_regS f_pc y_fl f_executedCount f_lastCode f_lastDetail a_mem y_scr a_visitCount a_marks y_inp y_outp := by
  refine nm_r (e' := nI (p + 1)) (nI_1 p) ?_
  iterate 7 refine br_f (by decide) ?_
  refine br_t (by decide) ?_
  refine nm_e ?_
  refine ys_setZN ?_
  exact h
theorem y5_6 {post : Int32 → SY → Prop} {p : Nat} {x2 x4 x5 x6 : Int32}  (h : post 0 (f_inSize, f_outSize, f_size, f_regA, (f_regX - 1) &&& 65535, f_regS, nI (p + 1), fg_zn y_fl ((f_regX - 1) &&& 65535), f_executedCount, f_lastCode, f_lastDetail, a_mem, y_scr, a_visitCount, a_marks, y_inp, y_outp)) : wY_step_56 post (nI p) x2 6 x4 x5 x6 f_inSize f_outSize f_size f_regA f_regX f_regS f_pc y_fl f_executedCount f_lastCode f_lastDetail a_mem y_scr a_visitCount a_marks y_inp y_outp := by
  refine nm_r (e' := nI (p + 1)) (nI_1 p) ?_
  iterate 8 refine br_f (by decide) ?_
  refine br_t (by decide) ?_
  refine nm_e ?_
  refine ys_setZN ?_
  exact h
theorem y5_70 {post : Int32 → SY → Prop} {x7 on : Int32} (h : post 0 (f_inSize, f_outSize, f_size, (f_regA <<< ((1 : Int32) &&& 31)) &&& 65535, f_regX, f_regS, x7, fg_zn (fg_sf y_fl 4 on) ((f_regA <<< ((1 : Int32) &&& 31)) &&& 65535), f_executedCount, f_lastCode, f_lastDetail, a_mem, y_scr, a_visitCount, a_marks, y_inp, y_outp)) : wY_step_348 post x7 on 4 f_inSize f_outSize f_size f_regA f_regX f_regS f_pc y_fl f_executedCount f_lastCode f_lastDetail a_mem y_scr a_visitCount a_marks y_inp y_outp := by
  unfold wY_step_348
  refine ys_setFlag ?_
  refine nm_e ?_
  refine ys_setZN ?_
  exact h
theorem y5_7 {post : Int32 → SY → Prop} {p : Nat} {x2 x4 x5 x6 : Int32}  (h : post 0 (f_inSize, f_outSize, f_size, (f_regA <<< ((1 : Int32) &&& 31)) &&& 65535, f_regX, f_regS, nI (p + 1), fg_zn (fg_sf y_fl 4 (if f_regA &&& 32768 = 0 then 0 else 1)) ((f_regA <<< ((1 : Int32) &&& 31)) &&& 65535), f_executedCount, f_lastCode, f_lastDetail, a_mem, y_scr, a_visitCount, a_marks, y_inp, y_outp)) : wY_step_56 post (nI p) x2 7 x4 x5 x6 f_inSize f_outSize f_size f_regA f_regX f_regS f_pc y_fl f_executedCount f_lastCode f_lastDetail a_mem y_scr a_visitCount a_marks y_inp y_outp := by
  refine nm_r (e' := nI (p + 1)) (nI_1 p) ?_
  iterate 9 refine br_f (by decide) ?_
  refine br_t (by decide) ?_
  refine ab_if (P := fun z => post 0 (f_inSize, f_outSize, f_size, (f_regA <<< ((1 : Int32) &&& 31)) &&& 65535, f_regX, f_regS, nI (p + 1), fg_zn (fg_sf y_fl 4 z) ((f_regA <<< ((1 : Int32) &&& 31)) &&& 65535), f_executedCount, f_lastCode, f_lastDetail, a_mem, y_scr, a_visitCount, a_marks, y_inp, y_outp)) h (fun h => ?_) (fun h => ?_)
  · exact y5_70 h
  · exact y5_70 h
theorem y5_80 {post : Int32 → SY → Prop} {x7 on : Int32} (h : post 0 (f_inSize, f_outSize, f_size, f_regA >>> ((1 : Int32) &&& 31), f_regX, f_regS, x7, fg_zn (fg_sf y_fl 4 on) (f_regA >>> ((1 : Int32) &&& 31)), f_executedCount, f_lastCode, f_lastDetail, a_mem, y_scr, a_visitCount, a_marks, y_inp, y_outp)) : wY_step_391 post x7 on 4 f_inSize f_outSize f_size f_regA f_regX f_regS f_pc y_fl f_executedCount f_lastCode f_lastDetail a_mem y_scr a_visitCount a_marks y_inp y_outp := by
  unfold wY_step_391
  refine ys_setFlag ?_
  refine nm_e ?_
  refine ys_setZN ?_
  exact h
theorem y5_8 {post : Int32 → SY → Prop} {p : Nat} {x2 x4 x5 x6 : Int32}  (h : post 0 (f_inSize, f_outSize, f_size, f_regA >>> ((1 : Int32) &&& 31), f_regX, f_regS, nI (p + 1), fg_zn (fg_sf y_fl 4 (if f_regA &&& 1 = 0 then 0 else 1)) (f_regA >>> ((1 : Int32) &&& 31)), f_executedCount, f_lastCode, f_lastDetail, a_mem, y_scr, a_visitCount, a_marks, y_inp, y_outp)) : wY_step_56 post (nI p) x2 8 x4 x5 x6 f_inSize f_outSize f_size f_regA f_regX f_regS f_pc y_fl f_executedCount f_lastCode f_lastDetail a_mem y_scr a_visitCount a_marks y_inp y_outp := by
  refine nm_r (e' := nI (p + 1)) (nI_1 p) ?_
  iterate 10 refine br_f (by decide) ?_
  refine br_t (by decide) ?_
  refine ab_if (P := fun z => post 0 (f_inSize, f_outSize, f_size, f_regA >>> ((1 : Int32) &&& 31), f_regX, f_regS, nI (p + 1), fg_zn (fg_sf y_fl 4 z) (f_regA >>> ((1 : Int32) &&& 31)), f_executedCount, f_lastCode, f_lastDetail, a_mem, y_scr, a_visitCount, a_marks, y_inp, y_outp)) h (fun h => ?_) (fun h => ?_)
  · exact y5_80 h
  · exact y5_80 h
theorem y5_9T {post : Int32 → SY → Prop} {p : Nat} {x2 x4 x5 x6 : Int32} (hc : f_inSize = 0) (h : post 5 (f_inSize, f_outSize, f_size, f_regA, f_regX, f_regS, f_pc, y_fl, f_executedCount, f_lastCode, 0, a_mem, y_scr, a_visitCount, a_marks, y_inp, y_outp)) : wY_step_56 post (nI p) x2 9 x4 x5 x6 f_inSize f_outSize f_size f_regA f_regX f_regS f_pc y_fl f_executedCount f_lastCode f_lastDetail a_mem y_scr a_visitCount a_marks y_inp y_outp := by
  refine nm_r (e' := nI (p + 1)) (nI_1 p) ?_
  iterate 11 refine br_f (by decide) ?_
  refine br_t (by decide) ?_
  refine br_t hc ?_
  refine ys_stop ?_
  exact h
theorem y5_442 {post : Int32 → SY → Prop} {x7 : Int32} {c : Nat} (h0 : 0 < c) : ∀ d i, i + d = 16 → 1 ≤ i → ∀ n, d < n → ∀ q : Nat → Int32,
    (∀ q' : Nat → Int32, (∀ j, q' j = if i ≤ j + 1 ∧ j < 15 then q (j + 1) else q j) → post 0 (nI (c - 1), f_outSize, f_size, f_regA, f_regX, f_regS, x7, fg_zn y_fl f_regA, f_executedCount, f_lastCode, f_lastDetail, a_mem, y_scr, a_visitCount, a_marks, q', y_outp)) →
    wY_step_442 post x7 (nI c) f_outSize f_size f_regA f_regX f_regS f_pc y_fl f_executedCount f_lastCode f_lastDetail n (nI i) a_mem y_scr a_visitCount a_marks q y_outp := by
  intro d
  induction d with
  | zero =>
    intro i hi h1 n hn q K
    obtain ⟨n, rfl⟩ : ∃ m, n = m + 1 := ⟨n - 1, by omega⟩
    refine br_t (nI_le (a := 16) (by omega) (by omega)) ?_
    refine nm_r (e' := nI (c - 1)) (pk_sub (b := 1) h0) ?_
    refine ys_setZN ?_
    refine K q ?_
    intro j
    rw [if_neg (by omega)]
  | succ d ih =>
    intro i hi h1 n hn q K
    obtain ⟨n, rfl⟩ : ∃ m, n = m + 1 := ⟨n - 1, by omega⟩
    have e1 : nI i - 1 = nI (i - 1) := pk_sub (b := 1) h1
    refine br_f (nI_ge (b := 16) (by omega) (by decide)) ?_
    refine And.intro (vp_in_nI (by omega) (by decide)) ?_
    refine And.intro (by rw [e1]; exact vp_in_nI (by omega) (by decide)) ?_
    refine nm_r (e' := upd q (i - 1) (q i)) (by rw [e1, nI_clamp (by omega), nI_clamp (by omega)]) ?_
    refine nm_r (e' := nI (i + 1)) (nI_1 i) ?_
    refine ih (i + 1) (by omega) (by omega) n (by omega) _ ?_
    intro q' hq
    refine K q' ?_
    intro j
    rw [hq j]
    by_cases e : j = i - 1
    · subst e
      rw [if_neg (by omega), pk_us, if_pos (by omega)]
      exact congrArg q (by omega)
    · by_cases e2 : i + 1 ≤ j + 1 ∧ j < 15
      · rw [if_pos e2, if_pos (by omega), pk_un (by omega)]
      · rw [if_neg e2, if_neg (by omega), pk_un (by omega)]
theorem y5_9 {post : Int32 → SY → Prop} {p c : Nat} {x2 x4 x5 x6 : Int32} (h0 : 0 < c) (hc : c ≤ 16)
    (K : post 0 (nI (c - 1), f_outSize, f_size, y_inp 0, f_regX, f_regS, nI (p + 1), fg_zn y_fl (y_inp 0), f_executedCount, f_lastCode, f_lastDetail, a_mem, y_scr, a_visitCount, a_marks, fun j => if j < 15 then y_inp (j + 1) else y_inp j, y_outp)) : wY_step_56 post (nI p) x2 9 x4 x5 x6 (nI c) f_outSize f_size f_regA f_regX f_regS f_pc y_fl f_executedCount f_lastCode f_lastDetail a_mem y_scr a_visitCount a_marks y_inp y_outp := by
  refine nm_r (e' := nI (p + 1)) (nI_1 p) ?_
  iterate 11 refine br_f (by decide) ?_
  refine br_t (by decide) ?_
  refine br_f (nI_ne0 h0 (by omega)) ?_
  refine nm_e ?_
  refine ⟨17, ?_⟩
  refine y5_442 h0 15 1 (by omega) (by omega) 17 (by omega) y_inp ?_
  intro q' hq
  have e : q' = fun j => if j < 15 then y_inp (j + 1) else y_inp j := by
    funext j
    rw [hq j]
    by_cases h : j < 15
    · rw [if_pos h, if_pos (by omega)]
    · rw [if_neg h, if_neg (by omega)]
  rw [e]
  exact K
theorem y5_10T {post : Int32 → SY → Prop} {p : Nat} {x2 x4 x5 x6 : Int32} (hc : ¬ f_outSize < 16) (h : post 6 (f_inSize, f_outSize, f_size, f_regA, f_regX, f_regS, f_pc, y_fl, f_executedCount, f_lastCode, 0, a_mem, y_scr, a_visitCount, a_marks, y_inp, y_outp)) : wY_step_56 post (nI p) x2 10 x4 x5 x6 f_inSize f_outSize f_size f_regA f_regX f_regS f_pc y_fl f_executedCount f_lastCode f_lastDetail a_mem y_scr a_visitCount a_marks y_inp y_outp := by
  refine nm_r (e' := nI (p + 1)) (nI_1 p) ?_
  iterate 12 refine br_f (by decide) ?_
  refine br_t (by decide) ?_
  refine br_f hc ?_
  refine ys_stop ?_
  exact h
theorem y5_10 {post : Int32 → SY → Prop} {p c : Nat} {x2 x4 x5 x6 : Int32} (hc : c < 16) (h : post 0 (f_inSize, nI (c + 1), f_size, f_regA, f_regX, f_regS, nI (p + 1), y_fl, f_executedCount, f_lastCode, f_lastDetail, a_mem, y_scr, a_visitCount, a_marks, y_inp, upd y_outp c f_regA)) : wY_step_56 post (nI p) x2 10 x4 x5 x6 f_inSize (nI c) f_size f_regA f_regX f_regS f_pc y_fl f_executedCount f_lastCode f_lastDetail a_mem y_scr a_visitCount a_marks y_inp y_outp := by
  refine nm_r (e' := nI (p + 1)) (nI_1 p) ?_
  iterate 12 refine br_f (by decide) ?_
  refine br_t (by decide) ?_
  refine br_t (nI_lt (b := 16) hc (by decide)) ?_
  refine And.intro (vp_in_nI hc (by decide)) ?_
  refine nm_r (e' := upd y_outp c f_regA) (by rw [nI_clamp (by omega)]) ?_
  exact nm_r (e' := nI (c + 1)) (nI_1 c) h
theorem y5_11 {post : Int32 → SY → Prop} {p : Nat} {x2 x4 x5 x6 : Int32}  (h : post 8 (f_inSize, f_outSize, f_size, f_regA, f_regX, f_regS, f_pc, y_fl, f_executedCount, f_lastCode, x2, a_mem, y_scr, a_visitCount, a_marks, y_inp, y_outp)) : wY_step_56 post (nI p) x2 11 x4 x5 x6 f_inSize f_outSize f_size f_regA f_regX f_regS f_pc y_fl f_executedCount f_lastCode f_lastDetail a_mem y_scr a_visitCount a_marks y_inp y_outp := by
  refine nm_r (e' := nI (p + 1)) (nI_1 p) ?_
  iterate 13 refine br_f (by decide) ?_
  refine br_t (by decide) ?_
  refine br_t (by decide) ?_
  unfold wY_step_771
  refine ys_stop ?_
  exact h
theorem y5_12 {post : Int32 → SY → Prop} {p : Nat} {x2 x4 x5 x6 : Int32}  (h : post 8 (f_inSize, f_outSize, f_size, f_regA, f_regX, f_regS, f_pc, y_fl, f_executedCount, f_lastCode, x2, a_mem, y_scr, a_visitCount, a_marks, y_inp, y_outp)) : wY_step_56 post (nI p) x2 12 x4 x5 x6 f_inSize f_outSize f_size f_regA f_regX f_regS f_pc y_fl f_executedCount f_lastCode f_lastDetail a_mem y_scr a_visitCount a_marks y_inp y_outp := by
  refine nm_r (e' := nI (p + 1)) (nI_1 p) ?_
  iterate 14 refine br_f (by decide) ?_
  refine br_t (by decide) ?_
  refine br_t (by decide) ?_
  unfold wY_step_771
  refine ys_stop ?_
  exact h
theorem y5_13 {post : Int32 → SY → Prop} {p : Nat} {x2 x4 x5 x6 : Int32}  (h : post 8 (f_inSize, f_outSize, f_size, f_regA, f_regX, f_regS, f_pc, y_fl, f_executedCount, f_lastCode, x2, a_mem, y_scr, a_visitCount, a_marks, y_inp, y_outp)) : wY_step_56 post (nI p) x2 13 x4 x5 x6 f_inSize f_outSize f_size f_regA f_regX f_regS f_pc y_fl f_executedCount f_lastCode f_lastDetail a_mem y_scr a_visitCount a_marks y_inp y_outp := by
  refine nm_r (e' := nI (p + 1)) (nI_1 p) ?_
  iterate 15 refine br_f (by decide) ?_
  refine br_t (by decide) ?_
  refine br_t (by decide) ?_
  unfold wY_step_771
  refine ys_stop ?_
  exact h
theorem y5_14 {post : Int32 → SY → Prop} {p : Nat} {x2 x4 x5 x6 : Int32}  (h : post 8 (f_inSize, f_outSize, f_size, f_regA, f_regX, f_regS, f_pc, y_fl, f_executedCount, f_lastCode, x2, a_mem, y_scr, a_visitCount, a_marks, y_inp, y_outp)) : wY_step_56 post (nI p) x2 14 x4 x5 x6 f_inSize f_outSize f_size f_regA f_regX f_regS f_pc y_fl f_executedCount f_lastCode f_lastDetail a_mem y_scr a_visitCount a_marks y_inp y_outp := by
  refine nm_r (e' := nI (p + 1)) (nI_1 p) ?_
  iterate 16 refine br_f (by decide) ?_
  refine br_t (by decide) ?_
  refine br_t (by decide) ?_
  unfold wY_step_771
  refine ys_stop ?_
  exact h
theorem y5_15 {post : Int32 → SY → Prop} {p : Nat} {x2 x4 x5 x6 : Int32}  (h : post 8 (f_inSize, f_outSize, f_size, f_regA, f_regX, f_regS, f_pc, y_fl, f_executedCount, f_lastCode, x2, a_mem, y_scr, a_visitCount, a_marks, y_inp, y_outp)) : wY_step_56 post (nI p) x2 15 x4 x5 x6 f_inSize f_outSize f_size f_regA f_regX f_regS f_pc y_fl f_executedCount f_lastCode f_lastDetail a_mem y_scr a_visitCount a_marks y_inp y_outp := by
  refine nm_r (e' := nI (p + 1)) (nI_1 p) ?_
  iterate 17 refine br_f (by decide) ?_
  refine br_t (by decide) ?_
  refine br_t (by decide) ?_
  unfold wY_step_771
  refine ys_stop ?_
  exact h
theorem y5_30 {post : Int32 → SY → Prop} {p : Nat} {x2 x4 x5 x6 : Int32}  (h : post 8 (f_inSize, f_outSize, f_size, f_regA, f_regX, f_regS, f_pc, y_fl, f_executedCount, f_lastCode, x2, a_mem, y_scr, a_visitCount, a_marks, y_inp, y_outp)) : wY_step_56 post (nI p) x2 30 x4 x5 x6 f_inSize f_outSize f_size f_regA f_regX f_regS f_pc y_fl f_executedCount f_lastCode f_lastDetail a_mem y_scr a_visitCount a_marks y_inp y_outp := by
  refine nm_r (e' := nI (p + 1)) (nI_1 p) ?_
  iterate 32 refine br_f (by decide) ?_
  refine br_t (by decide) ?_
  refine br_t (by decide) ?_
  unfold wY_step_771
  refine ys_stop ?_
  exact h
theorem y5_31 {post : Int32 → SY → Prop} {p : Nat} {x2 x4 x5 x6 : Int32}  (h : post 8 (f_inSize, f_outSize, f_size, f_regA, f_regX, f_regS, f_pc, y_fl, f_executedCount, f_lastCode, x2, a_mem, y_scr, a_visitCount, a_marks, y_inp, y_outp)) : wY_step_56 post (nI p) x2 31 x4 x5 x6 f_inSize f_outSize f_size f_regA f_regX f_regS f_pc y_fl f_executedCount f_lastCode f_lastDetail a_mem y_scr a_visitCount a_marks y_inp y_outp := by
  refine nm_r (e' := nI (p + 1)) (nI_1 p) ?_
  iterate 33 refine br_f (by decide) ?_
  refine br_t (by decide) ?_
  refine br_t (by decide) ?_
  unfold wY_step_771
  refine ys_stop ?_
  exact h
theorem y5_16 {post : Int32 → SY → Prop} {p : Nat} {x2 x4 x5 x6 : Int32}  (h : post 0 (f_inSize, f_outSize, f_size, f_regA, f_regX, f_regS, x4, y_fl, f_executedCount, f_lastCode, f_lastDetail, a_mem, y_scr, a_visitCount, a_marks, y_inp, y_outp)) : wY_step_56 post (nI p) x2 16 x4 x5 x6 f_inSize f_outSize f_size f_regA f_regX f_regS f_pc y_fl f_executedCount f_lastCode f_lastDetail a_mem y_scr a_visitCount a_marks y_inp y_outp := by
  refine nm_r (e' := nI (p + 1)) (nI_1 p) ?_
  iterate 18 refine br_f (by decide) ?_
  refine br_t (by decide) ?_
  exact h
theorem y5_17 {post : Int32 → SY → Prop} {p : Nat} {x2 x4 x5 x6 : Int32}  (h : post 0 (f_inSize, f_outSize, f_size, f_regA, f_regX, f_regS, (x4 + f_regX) &&& 65535, y_fl, f_executedCount, f_lastCode, f_lastDetail, a_mem, y_scr, a_visitCount, a_marks, y_inp, y_outp)) : wY_step_56 post (nI p) x2 17 x4 x5 x6 f_inSize f_outSize f_size f_regA f_regX f_regS f_pc y_fl f_executedCount f_lastCode f_lastDetail a_mem y_scr a_visitCount a_marks y_inp y_outp := by
  refine nm_r (e' := nI (p + 1)) (nI_1 p) ?_
  iterate 19 refine br_f (by decide) ?_
  refine br_t (by decide) ?_
  refine nm_e ?_
  exact h
theorem y5_18 {post : Int32 → SY → Prop} {p a : Nat} {x2 x4 x6 : Int32} (ha : a < 256) (hs : nI a < f_size)  (h : post 0 (f_inSize, f_outSize, f_size, f_regA, f_regX, nI a, x4, y_fl, f_executedCount, f_lastCode, f_lastDetail, upd a_mem a (nI (p + 1)), y_scr, a_visitCount, a_marks, y_inp, y_outp)) : wY_step_56 post (nI p) x2 18 x4 (nI a) x6 f_inSize f_outSize f_size f_regA f_regX f_regS f_pc y_fl f_executedCount f_lastCode f_lastDetail a_mem y_scr a_visitCount a_marks y_inp y_outp := by
  refine nm_r (e' := nI (p + 1)) (nI_1 p) ?_
  iterate 20 refine br_f (by decide) ?_
  refine br_t (by decide) ?_
  rw [nI_1]
  refine ys_store ha hs ?_
  exact h
theorem y5_19 {post : Int32 → SY → Prop} {p : Nat} {x2 x4 x5 x6 : Int32}  (h : post 0 (f_inSize, f_outSize, f_size, f_regA, f_regX, (f_regS + 1) &&& 65535, x6, y_fl, f_executedCount, f_lastCode, f_lastDetail, a_mem, y_scr, a_visitCount, a_marks, y_inp, y_outp)) : wY_step_56 post (nI p) x2 19 x4 x5 x6 f_inSize f_outSize f_size f_regA f_regX f_regS f_pc y_fl f_executedCount f_lastCode f_lastDetail a_mem y_scr a_visitCount a_marks y_inp y_outp := by
  refine nm_r (e' := nI (p + 1)) (nI_1 p) ?_
  iterate 21 refine br_f (by decide) ?_
  refine br_t (by decide) ?_
  refine nm_e ?_
  exact h
theorem y5_20 {post : Int32 → SY → Prop} {p : Nat} {x2 x4 x5 x6 b : Int32} (hcd : ∀ P : Int32 → Prop, P b → wpY_condition P (f_inSize, f_outSize, f_size, f_regA, f_regX, f_regS, f_pc, y_fl, f_executedCount, f_lastCode, f_lastDetail, a_mem, y_scr, a_visitCount, a_marks, y_inp, y_outp) 20) (h0 : b = 0 → post 0 (f_inSize, f_outSize, f_size, f_regA, f_regX, f_regS, nI (p + 1), y_fl, f_executedCount, f_lastCode, f_lastDetail, a_mem, y_scr, a_visitCount, a_marks, y_inp, y_outp)) (h1 : ¬ b = 0 → post 0 (f_inSize, f_outSize, f_size, f_regA, f_regX, f_regS, x4, y_fl, f_executedCount, f_lastCode, f_lastDetail, a_mem, y_scr, a_visitCount, a_marks, y_inp, y_outp)) : wY_step_56 post (nI p) x2 20 x4 x5 x6 f_inSize f_outSize f_size f_regA f_regX f_regS f_pc y_fl f_executedCount f_lastCode f_lastDetail a_mem y_scr a_visitCount a_marks y_inp y_outp := by
  refine nm_r (e' := nI (p + 1)) (nI_1 p) ?_
  iterate 22 refine br_f (by decide) ?_
  refine br_t (by decide) ?_
  unfold wY_step_599
  refine hcd _ ?_
  exact br_c h0 h1
theorem y5_21 {post : Int32 → SY → Prop} {p : Nat} {x2 x4 x5 x6 b : Int32} (hcd : ∀ P : Int32 → Prop, P b → wpY_condition P (f_inSize, f_outSize, f_size, f_regA, f_regX, f_regS, f_pc, y_fl, f_executedCount, f_lastCode, f_lastDetail, a_mem, y_scr, a_visitCount, a_marks, y_inp, y_outp) 21) (h0 : b = 0 → post 0 (f_inSize, f_outSize, f_size, f_regA, f_regX, f_regS, nI (p + 1), y_fl, f_executedCount, f_lastCode, f_lastDetail, a_mem, y_scr, a_visitCount, a_marks, y_inp, y_outp)) (h1 : ¬ b = 0 → post 0 (f_inSize, f_outSize, f_size, f_regA, f_regX, f_regS, x4, y_fl, f_executedCount, f_lastCode, f_lastDetail, a_mem, y_scr, a_visitCount, a_marks, y_inp, y_outp)) : wY_step_56 post (nI p) x2 21 x4 x5 x6 f_inSize f_outSize f_size f_regA f_regX f_regS f_pc y_fl f_executedCount f_lastCode f_lastDetail a_mem y_scr a_visitCount a_marks y_inp y_outp := by
  refine nm_r (e' := nI (p + 1)) (nI_1 p) ?_
  iterate 23 refine br_f (by decide) ?_
  refine br_t (by decide) ?_
  unfold wY_step_599
  refine hcd _ ?_
  exact br_c h0 h1
theorem y5_22 {post : Int32 → SY → Prop} {p : Nat} {x2 x4 x5 x6 b : Int32} (hcd : ∀ P : Int32 → Prop, P b → wpY_condition P (f_inSize, f_outSize, f_size, f_regA, f_regX, f_regS, f_pc, y_fl, f_executedCount, f_lastCode, f_lastDetail, a_mem, y_scr, a_visitCount, a_marks, y_inp, y_outp) 22) (h0 : b = 0 → post 0 (f_inSize, f_outSize, f_size, f_regA, f_regX, f_regS, nI (p + 1), y_fl, f_executedCount, f_lastCode, f_lastDetail, a_mem, y_scr, a_visitCount, a_marks, y_inp, y_outp)) (h1 : ¬ b = 0 → post 0 (f_inSize, f_outSize, f_size, f_regA, f_regX, f_regS, x4, y_fl, f_executedCount, f_lastCode, f_lastDetail, a_mem, y_scr, a_visitCount, a_marks, y_inp, y_outp)) : wY_step_56 post (nI p) x2 22 x4 x5 x6 f_inSize f_outSize f_size f_regA f_regX f_regS f_pc y_fl f_executedCount f_lastCode f_lastDetail a_mem y_scr a_visitCount a_marks y_inp y_outp := by
  refine nm_r (e' := nI (p + 1)) (nI_1 p) ?_
  iterate 24 refine br_f (by decide) ?_
  refine br_t (by decide) ?_
  unfold wY_step_599
  refine hcd _ ?_
  exact br_c h0 h1
theorem y5_23 {post : Int32 → SY → Prop} {p : Nat} {x2 x4 x5 x6 b : Int32} (hcd : ∀ P : Int32 → Prop, P b → wpY_condition P (f_inSize, f_outSize, f_size, f_regA, f_regX, f_regS, f_pc, y_fl, f_executedCount, f_lastCode, f_lastDetail, a_mem, y_scr, a_visitCount, a_marks, y_inp, y_outp) 23) (h0 : b = 0 → post 0 (f_inSize, f_outSize, f_size, f_regA, f_regX, f_regS, nI (p + 1), y_fl, f_executedCount, f_lastCode, f_lastDetail, a_mem, y_scr, a_visitCount, a_marks, y_inp, y_outp)) (h1 : ¬ b = 0 → post 0 (f_inSize, f_outSize, f_size, f_regA, f_regX, f_regS, x4, y_fl, f_executedCount, f_lastCode, f_lastDetail, a_mem, y_scr, a_visitCount, a_marks, y_inp, y_outp)) : wY_step_56 post (nI p) x2 23 x4 x5 x6 f_inSize f_outSize f_size f_regA f_regX f_regS f_pc y_fl f_executedCount f_lastCode f_lastDetail a_mem y_scr a_visitCount a_marks y_inp y_outp := by
  refine nm_r (e' := nI (p + 1)) (nI_1 p) ?_
  iterate 25 refine br_f (by decide) ?_
  refine br_t (by decide) ?_
  unfold wY_step_599
  refine hcd _ ?_
  exact br_c h0 h1
theorem y5_24 {post : Int32 → SY → Prop} {p : Nat} {x2 x4 x5 x6 b : Int32} (hcd : ∀ P : Int32 → Prop, P b → wpY_condition P (f_inSize, f_outSize, f_size, f_regA, f_regX, f_regS, f_pc, y_fl, f_executedCount, f_lastCode, f_lastDetail, a_mem, y_scr, a_visitCount, a_marks, y_inp, y_outp) 24) (h0 : b = 0 → post 0 (f_inSize, f_outSize, f_size, f_regA, f_regX, f_regS, nI (p + 1), y_fl, f_executedCount, f_lastCode, f_lastDetail, a_mem, y_scr, a_visitCount, a_marks, y_inp, y_outp)) (h1 : ¬ b = 0 → post 0 (f_inSize, f_outSize, f_size, f_regA, f_regX, f_regS, x4, y_fl, f_executedCount, f_lastCode, f_lastDetail, a_mem, y_scr, a_visitCount, a_marks, y_inp, y_outp)) : wY_step_56 post (nI p) x2 24 x4 x5 x6 f_inSize f_outSize f_size f_regA f_regX f_regS f_pc y_fl f_executedCount f_lastCode f_lastDetail a_mem y_scr a_visitCount a_marks y_inp y_outp := by
  refine nm_r (e' := nI (p + 1)) (nI_1 p) ?_
  iterate 26 refine br_f (by decide) ?_
  refine br_t (by decide) ?_
  unfold wY_step_599
  refine hcd _ ?_
  exact br_c h0 h1
theorem y5_25 {post : Int32 → SY → Prop} {p : Nat} {x2 x4 x5 x6 b : Int32} (hcd : ∀ P : Int32 → Prop, P b → wpY_condition P (f_inSize, f_outSize, f_size, f_regA, f_regX, f_regS, f_pc, y_fl, f_executedCount, f_lastCode, f_lastDetail, a_mem, y_scr, a_visitCount, a_marks, y_inp, y_outp) 25) (h0 : b = 0 → post 0 (f_inSize, f_outSize, f_size, f_regA, f_regX, f_regS, nI (p + 1), y_fl, f_executedCount, f_lastCode, f_lastDetail, a_mem, y_scr, a_visitCount, a_marks, y_inp, y_outp)) (h1 : ¬ b = 0 → post 0 (f_inSize, f_outSize, f_size, f_regA, f_regX, f_regS, x4, y_fl, f_executedCount, f_lastCode, f_lastDetail, a_mem, y_scr, a_visitCount, a_marks, y_inp, y_outp)) : wY_step_56 post (nI p) x2 25 x4 x5 x6 f_inSize f_outSize f_size f_regA f_regX f_regS f_pc y_fl f_executedCount f_lastCode f_lastDetail a_mem y_scr a_visitCount a_marks y_inp y_outp := by
  refine nm_r (e' := nI (p + 1)) (nI_1 p) ?_
  iterate 27 refine br_f (by decide) ?_
  refine br_t (by decide) ?_
  unfold wY_step_599
  refine hcd _ ?_
  exact br_c h0 h1
theorem y5_26 {post : Int32 → SY → Prop} {p : Nat} {x2 x4 x5 x6 b : Int32} (hcd : ∀ P : Int32 → Prop, P b → wpY_condition P (f_inSize, f_outSize, f_size, f_regA, f_regX, f_regS, f_pc, y_fl, f_executedCount, f_lastCode, f_lastDetail, a_mem, y_scr, a_visitCount, a_marks, y_inp, y_outp) 26) (h0 : b = 0 → post 0 (f_inSize, f_outSize, f_size, f_regA, f_regX, f_regS, nI (p + 1), y_fl, f_executedCount, f_lastCode, f_lastDetail, a_mem, y_scr, a_visitCount, a_marks, y_inp, y_outp)) (h1 : ¬ b = 0 → post 0 (f_inSize, f_outSize, f_size, f_regA, f_regX, f_regS, x4, y_fl, f_executedCount, f_lastCode, f_lastDetail, a_mem, y_scr, a_visitCount, a_marks, y_inp, y_outp)) : wY_step_56 post (nI p) x2 26 x4 x5 x6 f_inSize f_outSize f_size f_regA f_regX f_regS f_pc y_fl f_executedCount f_lastCode f_lastDetail a_mem y_scr a_visitCount a_marks y_inp y_outp := by
  refine nm_r (e' := nI (p + 1)) (nI_1 p) ?_
  iterate 28 refine br_f (by decide) ?_
  refine br_t (by decide) ?_
  unfold wY_step_599
  refine hcd _ ?_
  exact br_c h0 h1
theorem y5_27 {post : Int32 → SY → Prop} {p : Nat} {x2 x4 x5 x6 b : Int32} (hcd : ∀ P : Int32 → Prop, P b → wpY_condition P (f_inSize, f_outSize, f_size, f_regA, f_regX, f_regS, f_pc, y_fl, f_executedCount, f_lastCode, f_lastDetail, a_mem, y_scr, a_visitCount, a_marks, y_inp, y_outp) 27) (h0 : b = 0 → post 0 (f_inSize, f_outSize, f_size, f_regA, f_regX, f_regS, nI (p + 1), y_fl, f_executedCount, f_lastCode, f_lastDetail, a_mem, y_scr, a_visitCount, a_marks, y_inp, y_outp)) (h1 : ¬ b = 0 → post 0 (f_inSize, f_outSize, f_size, f_regA, f_regX, f_regS, x4, y_fl, f_executedCount, f_lastCode, f_lastDetail, a_mem, y_scr, a_visitCount, a_marks, y_inp, y_outp)) : wY_step_56 post (nI p) x2 27 x4 x5 x6 f_inSize f_outSize f_size f_regA f_regX f_regS f_pc y_fl f_executedCount f_lastCode f_lastDetail a_mem y_scr a_visitCount a_marks y_inp y_outp := by
  refine nm_r (e' := nI (p + 1)) (nI_1 p) ?_
  iterate 29 refine br_f (by decide) ?_
  refine br_t (by decide) ?_
  unfold wY_step_599
  refine hcd _ ?_
  exact br_c h0 h1
theorem y5_28 {post : Int32 → SY → Prop} {p : Nat} {x2 x4 x5 x6 b : Int32} (hcd : ∀ P : Int32 → Prop, P b → wpY_condition P (f_inSize, f_outSize, f_size, f_regA, f_regX, f_regS, f_pc, y_fl, f_executedCount, f_lastCode, f_lastDetail, a_mem, y_scr, a_visitCount, a_marks, y_inp, y_outp) 28) (h0 : b = 0 → post 0 (f_inSize, f_outSize, f_size, f_regA, f_regX, f_regS, nI (p + 1), y_fl, f_executedCount, f_lastCode, f_lastDetail, a_mem, y_scr, a_visitCount, a_marks, y_inp, y_outp)) (h1 : ¬ b = 0 → post 0 (f_inSize, f_outSize, f_size, f_regA, f_regX, f_regS, x4, y_fl, f_executedCount, f_lastCode, f_lastDetail, a_mem, y_scr, a_visitCount, a_marks, y_inp, y_outp)) : wY_step_56 post (nI p) x2 28 x4 x5 x6 f_inSize f_outSize f_size f_regA f_regX f_regS f_pc y_fl f_executedCount f_lastCode f_lastDetail a_mem y_scr a_visitCount a_marks y_inp y_outp := by
  refine nm_r (e' := nI (p + 1)) (nI_1 p) ?_
  iterate 30 refine br_f (by decide) ?_
  refine br_t (by decide) ?_
  unfold wY_step_599
  refine hcd _ ?_
  exact br_c h0 h1
theorem y5_29 {post : Int32 → SY → Prop} {p : Nat} {x2 x4 x5 x6 b : Int32} (hcd : ∀ P : Int32 → Prop, P b → wpY_condition P (f_inSize, f_outSize, f_size, f_regA, f_regX, f_regS, f_pc, y_fl, f_executedCount, f_lastCode, f_lastDetail, a_mem, y_scr, a_visitCount, a_marks, y_inp, y_outp) 29) (h0 : b = 0 → post 0 (f_inSize, f_outSize, f_size, f_regA, f_regX, f_regS, nI (p + 1), y_fl, f_executedCount, f_lastCode, f_lastDetail, a_mem, y_scr, a_visitCount, a_marks, y_inp, y_outp)) (h1 : ¬ b = 0 → post 0 (f_inSize, f_outSize, f_size, f_regA, f_regX, f_regS, x4, y_fl, f_executedCount, f_lastCode, f_lastDetail, a_mem, y_scr, a_visitCount, a_marks, y_inp, y_outp)) : wY_step_56 post (nI p) x2 29 x4 x5 x6 f_inSize f_outSize f_size f_regA f_regX f_regS f_pc y_fl f_executedCount f_lastCode f_lastDetail a_mem y_scr a_visitCount a_marks y_inp y_outp := by
  refine nm_r (e' := nI (p + 1)) (nI_1 p) ?_
  iterate 31 refine br_f (by decide) ?_
  refine br_t (by decide) ?_
  unfold wY_step_599
  refine hcd _ ?_
  exact br_c h0 h1
theorem y5_32 {post : Int32 → SY → Prop} {p a : Nat} {x2 x4 x6 : Int32} (ha : a < 256) (hs : nI a < f_size)  (h : post 0 (f_inSize, f_outSize, f_size, f_regA, f_regX, f_regS, nI (p + 1), y_fl, f_executedCount, f_lastCode, f_lastDetail, upd a_mem a f_regA, y_scr, a_visitCount, a_marks, y_inp, y_outp)) : wY_step_56 post (nI p) x2 32 x4 (nI a) x6 f_inSize f_outSize f_size f_regA f_regX f_regS f_pc y_fl f_executedCount f_lastCode f_lastDetail a_mem y_scr a_visitCount a_marks y_inp y_outp := by
  refine nm_r (e' := nI (p + 1)) (nI_1 p) ?_
  iterate 34 refine br_f (by decide) ?_
  refine br_t (by decide) ?_
  unfold wY_step_614
  refine ys_store ha hs ?_
  exact h
theorem y5_33 {post : Int32 → SY → Prop} {p a : Nat} {x2 x4 x6 : Int32} (ha : a < 256) (hs : nI a < f_size)  (h : post 0 (f_inSize, f_outSize, f_size, f_regA, f_regX, f_regS, nI (p + 1), y_fl, f_executedCount, f_lastCode, f_lastDetail, upd a_mem a f_regA, y_scr, a_visitCount, a_marks, y_inp, y_outp)) : wY_step_56 post (nI p) x2 33 x4 (nI a) x6 f_inSize f_outSize f_size f_regA f_regX f_regS f_pc y_fl f_executedCount f_lastCode f_lastDetail a_mem y_scr a_visitCount a_marks y_inp y_outp := by
  refine nm_r (e' := nI (p + 1)) (nI_1 p) ?_
  iterate 35 refine br_f (by decide) ?_
  refine br_t (by decide) ?_
  unfold wY_step_614
  refine ys_store ha hs ?_
  exact h
theorem y5_34 {post : Int32 → SY → Prop} {p a : Nat} {x2 x4 x6 : Int32} (ha : a < 256) (hs : nI a < f_size)  (h : post 0 (f_inSize, f_outSize, f_size, f_regA, f_regX, f_regS, nI (p + 1), y_fl, f_executedCount, f_lastCode, f_lastDetail, upd a_mem a f_regX, y_scr, a_visitCount, a_marks, y_inp, y_outp)) : wY_step_56 post (nI p) x2 34 x4 (nI a) x6 f_inSize f_outSize f_size f_regA f_regX f_regS f_pc y_fl f_executedCount f_lastCode f_lastDetail a_mem y_scr a_visitCount a_marks y_inp y_outp := by
  refine nm_r (e' := nI (p + 1)) (nI_1 p) ?_
  iterate 36 refine br_f (by decide) ?_
  refine br_t (by decide) ?_
  refine ys_store ha hs ?_
  exact h
theorem y5_35 {post : Int32 → SY → Prop} {p a : Nat} {x2 x4 x6 : Int32} (ha : a < 256) (hs : nI a < f_size)  (h : post 0 (f_inSize, f_outSize, f_size, f_regA, f_regX, f_regS, nI (p + 1), fg_zn y_fl ((x6 + 1) &&& 65535), f_executedCount, f_lastCode, f_lastDetail, upd a_mem a ((x6 + 1) &&& 65535), y_scr, a_visitCount, a_marks, y_inp, y_outp)) : wY_step_56 post (nI p) x2 35 x4 (nI a) x6 f_inSize f_outSize f_size f_regA f_regX f_regS f_pc y_fl f_executedCount f_lastCode f_lastDetail a_mem y_scr a_visitCount a_marks y_inp y_outp := by
  refine nm_r (e' := nI (p + 1)) (nI_1 p) ?_
  iterate 37 refine br_f (by decide) ?_
  refine br_t (by decide) ?_
  unfold wY_step_640
  refine nm_e ?_
  refine ys_store ha hs ?_
  refine ys_setZN ?_
  exact h
theorem y5_36 {post : Int32 → SY → Prop} {p a : Nat} {x2 x4 x6 : Int32} (ha : a < 256) (hs : nI a < f_size)  (h : post 0 (f_inSize, f_outSize, f_size, f_regA, f_regX, f_regS, nI (p + 1), fg_zn y_fl ((x6 + 1) &&& 65535), f_executedCount, f_lastCode, f_lastDetail, upd a_mem a ((x6 + 1) &&& 65535), y_scr, a_visitCount, a_marks, y_inp, y_outp)) : wY_step_56 post (nI p) x2 36 x4 (nI a) x6 f_inSize f_outSize f_size f_regA f_regX f_regS f_pc y_fl f_executedCount f_lastCode f_lastDetail a_mem y_scr a_visitCount a_marks y_inp y_outp := by
  refine nm_r (e' := nI (p + 1)) (nI_1 p) ?_
  iterate 38 refine br_f (by decide) ?_
  refine br_t (by decide) ?_
  unfold wY_step_640
  refine nm_e ?_
  refine ys_store ha hs ?_
  refine ys_setZN ?_
  exact h
theorem y5_37 {post : Int32 → SY → Prop} {p a : Nat} {x2 x4 x6 : Int32} (ha : a < 256) (hs : nI a < f_size)  (h : post 0 (f_inSize, f_outSize, f_size, f_regA, f_regX, nI a, nI (p + 1), y_fl, f_executedCount, f_lastCode, f_lastDetail, upd a_mem a f_regA, y_scr, a_visitCount, a_marks, y_inp, y_outp)) : wY_step_56 post (nI p) x2 37 x4 (nI a) x6 f_inSize f_outSize f_size f_regA f_regX f_regS f_pc y_fl f_executedCount f_lastCode f_lastDetail a_mem y_scr a_visitCount a_marks y_inp y_outp := by
  refine nm_r (e' := nI (p + 1)) (nI_1 p) ?_
  iterate 39 refine br_f (by decide) ?_
  refine br_t (by decide) ?_
  refine ys_store ha hs ?_
  exact h
theorem y5_38 {post : Int32 → SY → Prop} {p : Nat} {x2 x4 x5 x6 : Int32}  (h : post 0 (f_inSize, f_outSize, f_size, x6, f_regX, (f_regS + 1) &&& 65535, nI (p + 1), fg_zn y_fl x6, f_executedCount, f_lastCode, f_lastDetail, a_mem, y_scr, a_visitCount, a_marks, y_inp, y_outp)) : wY_step_56 post (nI p) x2 38 x4 x5 x6 f_inSize f_outSize f_size f_regA f_regX f_regS f_pc y_fl f_executedCount f_lastCode f_lastDetail a_mem y_scr a_visitCount a_marks y_inp y_outp := by
  refine nm_r (e' := nI (p + 1)) (nI_1 p) ?_
  iterate 40 refine br_f (by decide) ?_
  refine br_t (by decide) ?_
  refine nm_e ?_
  refine ys_setZN ?_
  exact h
theorem y5_39 {post : Int32 → SY → Prop} {p a : Nat} {x2 x4 x6 : Int32} (ha : a < 256) (hs : nI a < f_size)  (h : post 0 (f_inSize, f_outSize, f_size, f_regA, f_regX, nI a, nI (p + 1), y_fl, f_executedCount, f_lastCode, f_lastDetail, upd a_mem a y_fl, y_scr, a_visitCount, a_marks, y_inp, y_outp)) : wY_step_56 post (nI p) x2 39 x4 (nI a) x6 f_inSize f_outSize f_size f_regA f_regX f_regS f_pc y_fl f_executedCount f_lastCode f_lastDetail a_mem y_scr a_visitCount a_marks y_inp y_outp := by
  refine nm_r (e' := nI (p + 1)) (nI_1 p) ?_
  iterate 41 refine br_f (by decide) ?_
  refine br_t (by decide) ?_
  refine ys_store ha hs ?_
  exact h
theorem y5_40 {post : Int32 → SY → Prop} {p : Nat} {x2 x4 x5 x6 : Int32}  (h : post 0 (f_inSize, f_outSize, f_size, f_regA, f_regX, (f_regS + 1) &&& 65535, nI (p + 1), x6 &&& 15, f_executedCount, f_lastCode, f_lastDetail, a_mem, y_scr, a_visitCount, a_marks, y_inp, y_outp)) : wY_step_56 post (nI p) x2 40 x4 x5 x6 f_inSize f_outSize f_size f_regA f_regX f_regS f_pc y_fl f_executedCount f_lastCode f_lastDetail a_mem y_scr a_visitCount a_marks y_inp y_outp := by
  refine nm_r (e' := nI (p + 1)) (nI_1 p) ?_
  iterate 42 refine br_f (by decide) ?_
  refine br_t (by decide) ?_
  refine nm_e ?_
  refine nm_e ?_
  exact h
theorem y5_ill {post : Int32 → SY → Prop} {p o : Nat} {x2 x4 x5 x6 : Int32} (h41 : 41 ≤ o) (ho : o < 256) (hl : o < 64 ∨ 107 < o) (h : post 8 (f_inSize, f_outSize, f_size, f_regA, f_regX, f_regS, f_pc, y_fl, f_executedCount, f_lastCode, x2, a_mem, y_scr, a_visitCount, a_marks, y_inp, y_outp)) : wY_step_56 post (nI p) x2 (nI o) x4 x5 x6 f_inSize f_outSize f_size f_regA f_regX f_regS f_pc y_fl f_executedCount f_lastCode f_lastDetail a_mem y_scr a_visitCount a_marks y_inp y_outp := by
  refine nm_r (e' := nI (p + 1)) (nI_1 p) ?_
  refine br_f (nI_pos (by omega)) ?_
  refine br_t (nI_lt (a := 40) (by omega) (by omega)) ?_
  have W : wY_step_771 post x2 f_inSize f_outSize f_size f_regA f_regX f_regS f_pc y_fl f_executedCount f_lastCode f_lastDetail a_mem y_scr a_visitCount a_marks y_inp y_outp := by
    unfold wY_step_771
    refine ys_stop ?_
    exact h
  refine pk_lt o 64 (fun l => W) (fun l => ?_)
  refine pk_le o 107 (fun l2 => by omega) (fun l2 => W)
theorem y5_op {post : Int32 → SY → Prop} {p o : Nat} {x2 x4 x5 x6 v : Int32} (h64 : 64 ≤ o) (h107 : o ≤ 107) (hv0 : o % 4 = 0 → v = x4) (hv3 : o % 4 = 3 → v = f_regX) (hv : o % 4 = 1 ∨ o % 4 = 2 → v = x6)
    (h : wpY_operate (fun r u => match u with | (z0, z1, z2, z3, z4, z5, z6, z7, z8, z9, z10, z11, z12, z13, z14, z15, z16) => ((r = 0 → (post 0 (z0, z1, z2, z3, z4, z5, nI (p + 1), z7, z8, z9, z10, z11, z12, z13, z14, z15, z16))) ∧ (¬ r = 0 → (post r (z0, z1, z2, z3, z4, z5, z6, z7, z8, z9, z10, z11, z12, z13, z14, z15, z16))))) (f_inSize, f_outSize, f_size, f_regA, f_regX, f_regS, f_pc, y_fl, f_executedCount, f_lastCode, f_lastDetail, a_mem, y_scr, a_visitCount, a_marks, y_inp, y_outp) (nI ((o - 64) / 4)) v) : wY_step_56 post (nI p) x2 (nI o) x4 x5 x6 f_inSize f_outSize f_size f_regA f_regX f_regS f_pc y_fl f_executedCount f_lastCode f_lastDetail a_mem y_scr a_visitCount a_marks y_inp y_outp := by
  have e3 : nI o &&& 3 = nI (o % 4) := pk_andN (by omega) 2 (by decide)
  have e4 : (nI o - 64) >>> ((2 : Int32) &&& 31) = nI ((o - 64) / 4) := by
    rw [show nI o - 64 = nI (o - 64) from pk_sub (b := 64) h64]
    exact pk_shrN (by omega) _ 2 (by decide)
  refine nm_r (e' := nI (p + 1)) (nI_1 p) ?_
  refine br_f (nI_pos (by omega)) ?_
  refine br_t (nI_lt (a := 40) (by omega) (by omega)) ?_
  refine br_f (nI_nlt (b := 64) h64 (by omega)) ?_
  refine br_t (nI_le (b := 107) h107 (by decide)) ?_
  have fin : ∀ x, x = v → wY_step_806 post (nI o) (nI (p + 1)) x f_inSize f_outSize f_size f_regA f_regX f_regS f_pc y_fl f_executedCount f_lastCode f_lastDetail a_mem y_scr a_visitCount a_marks y_inp y_outp := by
    intro x hx
    subst hx
    unfold wY_step_806
    rw [e4]
    exact h
  refine pk_eq (o % 4) 0 (fun q => ?_) (fun q => ?_) e3
  · refine pk_eq (o % 4) 3 (fun q3 => by omega) (fun _ => ?_) e3
    exact fin _ (hv0 q).symm
  · refine pk_eq (o % 4) 3 (fun q3 => ?_) (fun q3 => ?_) e3
    · exact fin _ (hv3 q3).symm
    · exact fin _ (hv (by omega)).symm
theorem yq_0 {post : Int32 → SY → Prop} {p o : Nat} {x2 x4 x5 x6 v c : Int32} (h64 : 64 ≤ o) (h107 : o ≤ 107) (hf : (o - 64) / 4 = 0) (hv0 : o % 4 = 0 → v = x4) (hv3 : o % 4 = 3 → v = f_regX) (hv12 : o % 4 = 1 ∨ o % 4 = 2 → v = x6) (hB : fg_B c) (hc : y_fl &&& 4 = 0 ↔ c = 0)  (h : post 0 (f_inSize, f_outSize, f_size, v, f_regX, f_regS, nI (p + 1), fg_zn y_fl v, f_executedCount, f_lastCode, f_lastDetail, a_mem, y_scr, a_visitCount, a_marks, y_inp, y_outp)) : wY_step_56 post (nI p) x2 (nI o) x4 x5 x6 f_inSize f_outSize f_size f_regA f_regX f_regS f_pc y_fl f_executedCount f_lastCode f_lastDetail a_mem y_scr a_visitCount a_marks y_inp y_outp := by
  refine y5_op h64 h107 hv0 hv3 hv12 ?_
  rw [hf]
  refine ys_opr hB hc ?_
  refine yo_0 ?_
  exact br_t rfl h
theorem yq_1 {post : Int32 → SY → Prop} {p o : Nat} {x2 x4 x5 x6 v c : Int32} (h64 : 64 ≤ o) (h107 : o ≤ 107) (hf : (o - 64) / 4 = 1) (hv0 : o % 4 = 0 → v = x4) (hv3 : o % 4 = 3 → v = f_regX) (hv12 : o % 4 = 1 ∨ o % 4 = 2 → v = x6) (hB : fg_B c) (hc : y_fl &&& 4 = 0 ↔ c = 0)  (h : post 0 (f_inSize, f_outSize, f_size, (f_regA + v + 0) &&& 65535, f_regX, f_regS, nI (p + 1), fg_zn (fg_sf (fg_sf y_fl 4 (if f_regA + v + 0 ≤ 65535 then 0 else 1)) 8 (if (((f_regA ^^^ ((f_regA + v + 0) &&& 65535)) &&& (v ^^^ ((f_regA + v + 0) &&& 65535))) &&& 32768) = 0 then 0 else 1)) ((f_regA + v + 0) &&& 65535), f_executedCount, f_lastCode, f_lastDetail, a_mem, y_scr, a_visitCount, a_marks, y_inp, y_outp)) : wY_step_56 post (nI p) x2 (nI o) x4 x5 x6 f_inSize f_outSize f_size f_regA f_regX f_regS f_pc y_fl f_executedCount f_lastCode f_lastDetail a_mem y_scr a_visitCount a_marks y_inp y_outp := by
  refine y5_op h64 h107 hv0 hv3 hv12 ?_
  rw [hf]
  refine ys_opr hB hc ?_
  refine yo_1 ?_
  exact br_t rfl h
theorem yq_2 {post : Int32 → SY → Prop} {p o : Nat} {x2 x4 x5 x6 v c : Int32} (h64 : 64 ≤ o) (h107 : o ≤ 107) (hf : (o - 64) / 4 = 2) (hv0 : o % 4 = 0 → v = x4) (hv3 : o % 4 = 3 → v = f_regX) (hv12 : o % 4 = 1 ∨ o % 4 = 2 → v = x6) (hB : fg_B c) (hc : y_fl &&& 4 = 0 ↔ c = 0)  (h : post 0 (f_inSize, f_outSize, f_size, (f_regA + v + c) &&& 65535, f_regX, f_regS, nI (p + 1), fg_zn (fg_sf (fg_sf y_fl 4 (if f_regA + v + c ≤ 65535 then 0 else 1)) 8 (if (((f_regA ^^^ ((f_regA + v + c) &&& 65535)) &&& (v ^^^ ((f_regA + v + c) &&& 65535))) &&& 32768) = 0 then 0 else 1)) ((f_regA + v + c) &&& 65535), f_executedCount, f_lastCode, f_lastDetail, a_mem, y_scr, a_visitCount, a_marks, y_inp, y_outp)) : wY_step_56 post (nI p) x2 (nI o) x4 x5 x6 f_inSize f_outSize f_size f_regA f_regX f_regS f_pc y_fl f_executedCount f_lastCode f_lastDetail a_mem y_scr a_visitCount a_marks y_inp y_outp := by
  refine y5_op h64 h107 hv0 hv3 hv12 ?_
  rw [hf]
  refine ys_opr hB hc ?_
  refine yo_2 ?_
  exact br_t rfl h
theorem yq_3 {post : Int32 → SY → Prop} {p o : Nat} {x2 x4 x5 x6 v c : Int32} (h64 : 64 ≤ o) (h107 : o ≤ 107) (hf : (o - 64) / 4 = 3) (hv0 : o % 4 = 0 → v = x4) (hv3 : o % 4 = 3 → v = f_regX) (hv12 : o % 4 = 1 ∨ o % 4 = 2 → v = x6) (hB : fg_B c) (hc : y_fl &&& 4 = 0 ↔ c = 0)  (h : post 0 (f_inSize, f_outSize, f_size, (f_regA - v - 0) &&& 65535, f_regX, f_regS, nI (p + 1), fg_zn (fg_sf (fg_sf y_fl 4 (if 0 ≤ f_regA - v - 0 then 0 else 1)) 8 (if (((f_regA ^^^ v) &&& (f_regA ^^^ ((f_regA - v - 0) &&& 65535))) &&& 32768) = 0 then 0 else 1)) ((f_regA - v - 0) &&& 65535), f_executedCount, f_lastCode, f_lastDetail, a_mem, y_scr, a_visitCount, a_marks, y_inp, y_outp)) : wY_step_56 post (nI p) x2 (nI o) x4 x5 x6 f_inSize f_outSize f_size f_regA f_regX f_regS f_pc y_fl f_executedCount f_lastCode f_lastDetail a_mem y_scr a_visitCount a_marks y_inp y_outp := by
  refine y5_op h64 h107 hv0 hv3 hv12 ?_
  rw [hf]
  refine ys_opr hB hc ?_
  refine yo_3 ?_
  exact br_t rfl h
theorem yq_4 {post : Int32 → SY → Prop} {p o : Nat} {x2 x4 x5 x6 v c : Int32} (h64 : 64 ≤ o) (h107 : o ≤ 107) (hf : (o - 64) / 4 = 4) (hv0 : o % 4 = 0 → v = x4) (hv3 : o % 4 = 3 → v = f_regX) (hv12 : o % 4 = 1 ∨ o % 4 = 2 → v = x6) (hB : fg_B c) (hc : y_fl &&& 4 = 0 ↔ c = 0)  (h : post 0 (f_inSize, f_outSize, f_size, (f_regA - v - c) &&& 65535, f_regX, f_regS, nI (p + 1), fg_zn (fg_sf (fg_sf y_fl 4 (if 0 ≤ f_regA - v - c then 0 else 1)) 8 (if (((f_regA ^^^ v) &&& (f_regA ^^^ ((f_regA - v - c) &&& 65535))) &&& 32768) = 0 then 0 else 1)) ((f_regA - v - c) &&& 65535), f_executedCount, f_lastCode, f_lastDetail, a_mem, y_scr, a_visitCount, a_marks, y_inp, y_outp)) : wY_step_56 post (nI p) x2 (nI o) x4 x5 x6 f_inSize f_outSize f_size f_regA f_regX f_regS f_pc y_fl f_executedCount f_lastCode f_lastDetail a_mem y_scr a_visitCount a_marks y_inp y_outp := by
  refine y5_op h64 h107 hv0 hv3 hv12 ?_
  rw [hf]
  refine ys_opr hB hc ?_
  refine yo_4 ?_
  exact br_t rfl h
theorem yq_5 {post : Int32 → SY → Prop} {p o : Nat} {x2 x4 x5 x6 v c : Int32} (h64 : 64 ≤ o) (h107 : o ≤ 107) (hf : (o - 64) / 4 = 5) (hv0 : o % 4 = 0 → v = x4) (hv3 : o % 4 = 3 → v = f_regX) (hv12 : o % 4 = 1 ∨ o % 4 = 2 → v = x6) (hB : fg_B c) (hc : y_fl &&& 4 = 0 ↔ c = 0)  (h : post 0 (f_inSize, f_outSize, f_size, f_regA, f_regX, f_regS, nI (p + 1), fg_zn (fg_sf (fg_sf y_fl 4 (if 0 ≤ f_regA - v - 0 then 0 else 1)) 8 (if (((f_regA ^^^ v) &&& (f_regA ^^^ ((f_regA - v - 0) &&& 65535))) &&& 32768) = 0 then 0 else 1)) ((f_regA - v - 0) &&& 65535), f_executedCount, f_lastCode, f_lastDetail, a_mem, y_scr, a_visitCount, a_marks, y_inp, y_outp)) : wY_step_56 post (nI p) x2 (nI o) x4 x5 x6 f_inSize f_outSize f_size f_regA f_regX f_regS f_pc y_fl f_executedCount f_lastCode f_lastDetail a_mem y_scr a_visitCount a_marks y_inp y_outp := by
  refine y5_op h64 h107 hv0 hv3 hv12 ?_
  rw [hf]
  refine ys_opr hB hc ?_
  refine yo_5 ?_
  exact br_t rfl h
theorem yq_6 {post : Int32 → SY → Prop} {p o : Nat} {x2 x4 x5 x6 v c : Int32} (h64 : 64 ≤ o) (h107 : o ≤ 107) (hf : (o - 64) / 4 = 6) (hv0 : o % 4 = 0 → v = x4) (hv3 : o % 4 = 3 → v = f_regX) (hv12 : o % 4 = 1 ∨ o % 4 = 2 → v = x6) (hB : fg_B c) (hc : y_fl &&& 4 = 0 ↔ c = 0)  (h : post 0 (f_inSize, f_outSize, f_size, f_regA &&& v, f_regX, f_regS, nI (p + 1), fg_zn y_fl (f_regA &&& v), f_executedCount, f_lastCode, f_lastDetail, a_mem, y_scr, a_visitCount, a_marks, y_inp, y_outp)) : wY_step_56 post (nI p) x2 (nI o) x4 x5 x6 f_inSize f_outSize f_size f_regA f_regX f_regS f_pc y_fl f_executedCount f_lastCode f_lastDetail a_mem y_scr a_visitCount a_marks y_inp y_outp := by
  refine y5_op h64 h107 hv0 hv3 hv12 ?_
  rw [hf]
  refine ys_opr hB hc ?_
  refine yo_6 ?_
  exact br_t rfl h
theorem yq_7 {post : Int32 → SY → Prop} {p o : Nat} {x2 x4 x5 x6 v c : Int32} (h64 : 64 ≤ o) (h107 : o ≤ 107) (hf : (o - 64) / 4 = 7) (hv0 : o % 4 = 0 → v = x4) (hv3 : o % 4 = 3 → v = f_regX) (hv12 : o % 4 = 1 ∨ o % 4 = 2 → v = x6) (hB : fg_B c) (hc : y_fl &&& 4 = 0 ↔ c = 0)  (h : post 0 (f_inSize, f_outSize, f_size, f_regA ||| v, f_regX, f_regS, nI (p + 1), fg_zn y_fl (f_regA ||| v), f_executedCount, f_lastCode, f_lastDetail, a_mem, y_scr, a_visitCount, a_marks, y_inp, y_outp)) : wY_step_56 post (nI p) x2 (nI o) x4 x5 x6 f_inSize f_outSize f_size f_regA f_regX f_regS f_pc y_fl f_executedCount f_lastCode f_lastDetail a_mem y_scr a_visitCount a_marks y_inp y_outp := by
  refine y5_op h64 h107 hv0 hv3 hv12 ?_
  rw [hf]
  refine ys_opr hB hc ?_
  refine yo_7 ?_
  exact br_t rfl h
theorem yq_8 {post : Int32 → SY → Prop} {p o : Nat} {x2 x4 x5 x6 v c : Int32} (h64 : 64 ≤ o) (h107 : o ≤ 107) (hf : (o - 64) / 4 = 8) (hv0 : o % 4 = 0 → v = x4) (hv3 : o % 4 = 3 → v = f_regX) (hv12 : o % 4 = 1 ∨ o % 4 = 2 → v = x6) (hB : fg_B c) (hc : y_fl &&& 4 = 0 ↔ c = 0)  (h : post 0 (f_inSize, f_outSize, f_size, f_regA ^^^ v, f_regX, f_regS, nI (p + 1), fg_zn y_fl (f_regA ^^^ v), f_executedCount, f_lastCode, f_lastDetail, a_mem, y_scr, a_visitCount, a_marks, y_inp, y_outp)) : wY_step_56 post (nI p) x2 (nI o) x4 x5 x6 f_inSize f_outSize f_size f_regA f_regX f_regS f_pc y_fl f_executedCount f_lastCode f_lastDetail a_mem y_scr a_visitCount a_marks y_inp y_outp := by
  refine y5_op h64 h107 hv0 hv3 hv12 ?_
  rw [hf]
  refine ys_opr hB hc ?_
  refine yo_8 ?_
  exact br_t rfl h
theorem yq_9T {post : Int32 → SY → Prop} {p o : Nat} {x2 x4 x5 x6 v c : Int32} (h64 : 64 ≤ o) (h107 : o ≤ 107) (hf : (o - 64) / 4 = 9) (hv0 : o % 4 = 0 → v = x4) (hv3 : o % 4 = 3 → v = f_regX) (hv12 : o % 4 = 1 ∨ o % 4 = 2 → v = x6) (hB : fg_B c) (hc : y_fl &&& 4 = 0 ↔ c = 0) (hv : v = 0) (h : post 10 (f_inSize, f_outSize, f_size, f_regA, f_regX, f_regS, f_pc, y_fl, f_executedCount, f_lastCode, 0, a_mem, y_scr, a_visitCount, a_marks, y_inp, y_outp)) : wY_step_56 post (nI p) x2 (nI o) x4 x5 x6 f_inSize f_outSize f_size f_regA f_regX f_regS f_pc y_fl f_executedCount f_lastCode f_lastDetail a_mem y_scr a_visitCount a_marks y_inp y_outp := by
  refine y5_op h64 h107 hv0 hv3 hv12 ?_
  rw [hf]
  refine ys_opr hB hc ?_
  refine yo_9T hv ?_
  exact br_f (by decide) h
theorem yq_9 {post : Int32 → SY → Prop} {p o : Nat} {x2 x4 x5 x6 v c : Int32} (h64 : 64 ≤ o) (h107 : o ≤ 107) (hf : (o - 64) / 4 = 9) (hv0 : o % 4 = 0 → v = x4) (hv3 : o % 4 = 3 → v = f_regX) (hv12 : o % 4 = 1 ∨ o % 4 = 2 → v = x6) (hB : fg_B c) (hc : y_fl &&& 4 = 0 ↔ c = 0) (hv : ¬ v = 0) (h : post 0 (f_inSize, f_outSize, f_size, f_regA / v, f_regA - f_regA / v * v, f_regS, nI (p + 1), fg_zn y_fl (f_regA / v), f_executedCount, f_lastCode, f_lastDetail, a_mem, y_scr, a_visitCount, a_marks, y_inp, y_outp)) : wY_step_56 post (nI p) x2 (nI o) x4 x5 x6 f_inSize f_outSize f_size f_regA f_regX f_regS f_pc y_fl f_executedCount f_lastCode f_lastDetail a_mem y_scr a_visitCount a_marks y_inp y_outp := by
  refine y5_op h64 h107 hv0 hv3 hv12 ?_
  rw [hf]
  refine ys_opr hB hc ?_
  refine yo_9 hv ?_
  exact br_t rfl h
theorem yq_10 {post : Int32 → SY → Prop} {p o : Nat} {x2 x4 x5 x6 v c : Int32} (h64 : 64 ≤ o) (h107 : o ≤ 107) (hf : (o - 64) / 4 = 10) (hv0 : o % 4 = 0 → v = x4) (hv3 : o % 4 = 3 → v = f_regX) (hv12 : o % 4 = 1 ∨ o % 4 = 2 → v = x6) (hB : fg_B c) (hc : y_fl &&& 4 = 0 ↔ c = 0)  (h : post 0 (f_inSize, f_outSize, f_size, f_regA, v, f_regS, nI (p + 1), fg_zn y_fl v, f_executedCount, f_lastCode, f_lastDetail, a_mem, y_scr, a_visitCount, a_marks, y_inp, y_outp)) : wY_step_56 post (nI p) x2 (nI o) x4 x5 x6 f_inSize f_outSize f_size f_regA f_regX f_regS f_pc y_fl f_executedCount f_lastCode f_lastDetail a_mem y_scr a_visitCount a_marks y_inp y_outp := by
  refine y5_op h64 h107 hv0 hv3 hv12 ?_
  rw [hf]
  refine ys_opr hB hc ?_
  refine yo_10 ?_
  exact br_t rfl h
end YT
end
section
/-! the step, in lockstep (printed by gen12.py) -/
def qu_R (q : Nat → Int32) (h c : Int32) (y : Nat → Int32) : Prop := ∃ hd n : Nat, h = nI hd ∧ c = nI n ∧ hd < 16 ∧ n ≤ 16 ∧ (∀ j, j < n → y j = q ((hd + j) % 16)) ∧ ∀ j, ab_W (q j)
theorem qu_pop {q y y' : Nat → Int32} {hd n : Nat} (hh : hd < 16) (h0 : 0 < n) (hn : n ≤ 16) (hy : ∀ j, j < n → y j = q ((hd + j) % 16)) (hW : ∀ j, ab_W (q j)) (h : ∀ j, j < 15 → y' j = y (j + 1)) : qu_R q (nI ((hd + 1) % 16)) (nI (n - 1)) y' := by
  refine ⟨(hd + 1) % 16, n - 1, rfl, rfl, by omega, by omega, ?_, hW⟩
  intro j hj
  rw [h j (by omega), hy (j + 1) (by omega)]
  exact congrArg q (by omega)
theorem qu_push {q y : Nat → Int32} {hd n : Nat} {x : Int32} (hh : hd < 16) (hn : n < 16) (hy : ∀ j, j < n → y j = q ((hd + j) % 16)) (hW : ∀ j, ab_W (q j)) (hx : ab_W x) : qu_R (upd q ((hd + n) % 16) x) (nI hd) (nI (n + 1)) (upd y n x) := by
  refine ⟨hd, n + 1, rfl, rfl, hh, by omega, ?_, ab_Wup hW hx⟩
  intro j hj
  by_cases e : j = n
  · subst e
    rw [pk_us, pk_us]
  · rw [pk_un e, pk_un (by omega)]
    exact hy j (by omega)
def sp_G (A X S fl fb zp zr ck cl cr cw ih is oh os : Int32) (mem iq oq inp outp : Nat → Int32) : Prop :=
  ab_W A ∧ ab_W X ∧ ab_W S ∧ (∀ j, ab_W (mem j)) ∧ fl = fg_F fb zp zr ck cl cr cw ∧ qu_R iq ih is inp ∧ qu_R oq oh os outp
def sp_C (pa : Nat) (ct : Prop) (arg P yp ek cd : Int32) : Prop :=
  (cd = 0 ∧ ek = 0 ∧ yp = nI (pa + 1) ∧ ¬ ct) ∨ (cd = 1 ∧ yp = P ∧ ab_W P ∧ ct ∧ (ek = 2 ∨ (ek = 0 ∧ P = nI (pa + 1)) ∨ (ek = 1 ∧ P = arg)))
theorem sp_hc {y z n c v : Int32} (hz : fg_B z) (hn : fg_B n) (hc : fg_B c) (hv : fg_B v) (h : y = fg_L z n c v) : y &&& 4 = 0 ↔ c = 0 := by
  rw [h]; exact (fg_L1 hz hn hc hv).2.2.1
def sp_KD (post : Int32 → SX → Prop) (sz r idx pa wn : Nat) (g : Nat → Option (Nat × Nat)) (y_ex y_fl : Int32) (y_scr y_vc y_inp y_outp : Nat → Int32) (f_size f_executedCount f_regA f_regX f_regS f_pc f_flagBits f_znPending f_znResult f_cvKind f_cvLeft f_cvRight f_cvWide f_inHead f_inSize f_outHead f_outSize f_lastCode f_lastDetail f_cacheLimit f_lengthLimit f_hand f_running f_linkFrom f_exitKind f_controlDone f_trapCode f_trapDetail : Int32) (a_mem a_marks a_visitCount a_inQueue a_outQueue a_blockStart a_blockCount a_blockRecent a_links a_entry a_cover a_opKind a_opMode a_opArg : Nat → Int32) : Prop :=
  ∀ (fl yp : Int32) (inp outp : Nat → Int32) (g' : Nat → Option (Nat × Nat)) (A X S P fb zp zr ck cl cr cw ih is oh os run ek cd : Int32) (mem iq oq bs bc br lk en cv : Nat → Int32),
    sp_G A X S fl fb zp zr ck cl cr cw ih is oh os mem iq oq inp outp → ca_CI sz g' mem a_marks bs bc lk en cv a_opKind a_opMode a_opArg → ca_DR g (nI r) (-1) g' run (-1) → sp_C pa (16 ≤ wn / 256 ∧ wn / 256 ≤ 29) (a_opArg idx) P yp ek cd →
    (∀ pY : Int32 → SY → Prop, pY 0 (is, os, nI sz, A, X, S, yp, fl, y_ex, f_lastCode, f_lastDetail, mem, y_scr, y_vc, a_marks, inp, outp) → wpY_step pY (f_inSize, f_outSize, nI sz, f_regA, f_regX, f_regS, nI pa, y_fl, y_ex, f_lastCode, f_lastDetail, a_mem, y_scr, y_vc, a_marks, y_inp, y_outp) (nI pa) (nI wn)) → post 1 (nI sz, f_executedCount, A, X, S, P, fb, zp, zr, ck, cl, cr, cw, ih, is, oh, os, f_lastCode, f_lastDetail, f_cacheLimit, f_lengthLimit, f_hand, run, -1, ek, cd, 0, 0, mem, a_marks, a_visitCount, iq, oq, bs, bc, br, lk, en, cv, a_opKind, a_opMode, a_opArg)
def sp_KT (post : Int32 → SX → Prop) (sz r pa wn : Nat) (y_ex y_fl : Int32) (y_scr y_vc y_inp y_outp : Nat → Int32) (f_size f_executedCount f_regA f_regX f_regS f_pc f_flagBits f_znPending f_znResult f_cvKind f_cvLeft f_cvRight f_cvWide f_inHead f_inSize f_outHead f_outSize f_lastCode f_lastDetail f_cacheLimit f_lengthLimit f_hand f_running f_linkFrom f_exitKind f_controlDone f_trapCode f_trapDetail : Int32) (a_mem a_marks a_visitCount a_inQueue a_outQueue a_blockStart a_blockCount a_blockRecent a_links a_entry a_cover a_opKind a_opMode a_opArg : Nat → Int32) : Prop :=
  ∀ (code detail : Int32), code ≠ 0 → (∀ pY : Int32 → SY → Prop, pY code (f_inSize, f_outSize, nI sz, f_regA, f_regX, f_regS, nI pa, y_fl, y_ex, f_lastCode, detail, a_mem, y_scr, y_vc, a_marks, y_inp, y_outp) → wpY_step pY (f_inSize, f_outSize, nI sz, f_regA, f_regX, f_regS, nI pa, y_fl, y_ex, f_lastCode, f_lastDetail, a_mem, y_scr, y_vc, a_marks, y_inp, y_outp) (nI pa) (nI wn)) → post 0 (nI sz, f_executedCount, f_regA, f_regX, f_regS, f_pc, f_flagBits, f_znPending, f_znResult, f_cvKind, f_cvLeft, f_cvRight, f_cvWide, f_inHead, f_inSize, f_outHead, f_outSize, f_lastCode, f_lastDetail, f_cacheLimit, f_lengthLimit, f_hand, nI r, -1, 0, 0, code, detail, a_mem, a_marks, a_visitCount, a_inQueue, a_outQueue, a_blockStart, a_blockCount, a_blockRecent, a_links, a_entry, a_cover, a_opKind, a_opMode, a_opArg)
section SP
variable {f_size f_executedCount f_regA f_regX f_regS f_pc f_flagBits f_znPending f_znResult f_cvKind f_cvLeft f_cvRight f_cvWide f_inHead f_inSize f_outHead f_outSize f_lastCode f_lastDetail f_cacheLimit f_lengthLimit f_hand f_running f_linkFrom f_exitKind f_controlDone f_trapCode f_trapDetail : Int32} {a_mem a_marks a_visitCount a_inQueue a_outQueue a_blockStart a_blockCount a_blockRecent a_links a_entry a_cover a_opKind a_opMode a_opArg : Nat → Int32}
variable {y_fl : Int32} {y_scr y_inp y_outp : Nat → Int32}
variable {y_ex : Int32} {y_vc : Nat → Int32} {post : Int32 → SX → Prop} {sz r idx pa wn : Nat} {g : Nat → Option (Nat × Nat)}
theorem sp_zm (h : sz < 2 ^ 31) : -1 < nI sz := Int32.lt_of_lt_of_le (by decide) (nI_pos' (n := sz) h)
theorem sc_0 (hz32 : 32 ≤ sz) (hz : sz ≤ 256) (hr : r < 8) (hi : idx < 128) (hpa : pa < sz) (hw : wn < 65536) (G : sp_G f_regA f_regX f_regS y_fl f_flagBits f_znPending f_znResult f_cvKind f_cvLeft f_cvRight f_cvWide f_inHead f_inSize f_outHead f_outSize a_mem a_inQueue a_outQueue y_inp y_outp) (C : ca_CI sz g a_mem a_marks a_blockStart a_blockCount a_links a_entry a_cover a_opKind a_opMode a_opArg) (ho : wn / 256 = 0) (hK : a_opKind idx = 202) (hM : a_opMode idx = 0) (hA : a_opArg idx = 0) (KT : sp_KT post sz r pa wn y_ex y_fl y_scr y_vc y_inp y_outp f_size f_executedCount f_regA f_regX f_regS f_pc f_flagBits f_znPending f_znResult f_cvKind f_cvLeft f_cvRight f_cvWide f_inHead f_inSize f_outHead f_outSize f_lastCode f_lastDetail f_cacheLimit f_lengthLimit f_hand f_running f_linkFrom f_exitKind f_controlDone f_trapCode f_trapDetail a_mem a_marks a_visitCount a_inQueue a_outQueue a_blockStart a_blockCount a_blockRecent a_links a_entry a_cover a_opKind a_opMode a_opArg) : wpX_step post (nI sz, f_executedCount, f_regA, f_regX, f_regS, f_pc, f_flagBits, f_znPending, f_znResult, f_cvKind, f_cvLeft, f_cvRight, f_cvWide, f_inHead, f_inSize, f_outHead, f_outSize, f_lastCode, f_lastDetail, f_cacheLimit, f_lengthLimit, f_hand, nI r, -1, 0, 0, 0, 0, a_mem, a_marks, a_visitCount, a_inQueue, a_outQueue, a_blockStart, a_blockCount, a_blockRecent, a_links, a_entry, a_cover, a_opKind, a_opMode, a_opArg) (nI idx) (nI pa) := by
  refine xk_T hi hK hM hA (by decide) (c := 2) (by decide) ?_
  refine KT 2 0 (by decide) ?_
  intro pY h
  refine yt_none hw (O := 0) (by rw [ho]; rfl) (sp_zm (by omega)) (fun P hP => ya_0 hP) ?_
  refine y5_0 ?_
  exact h
theorem sc_11 (hz32 : 32 ≤ sz) (hz : sz ≤ 256) (hr : r < 8) (hi : idx < 128) (hpa : pa < sz) (hw : wn < 65536) (G : sp_G f_regA f_regX f_regS y_fl f_flagBits f_znPending f_znResult f_cvKind f_cvLeft f_cvRight f_cvWide f_inHead f_inSize f_outHead f_outSize a_mem a_inQueue a_outQueue y_inp y_outp) (C : ca_CI sz g a_mem a_marks a_blockStart a_blockCount a_links a_entry a_cover a_opKind a_opMode a_opArg) (ho : wn / 256 = 11) (hK : a_opKind idx = 208) (hM : a_opMode idx = 0) (hA : a_opArg idx = nI wn) (KT : sp_KT post sz r pa wn y_ex y_fl y_scr y_vc y_inp y_outp f_size f_executedCount f_regA f_regX f_regS f_pc f_flagBits f_znPending f_znResult f_cvKind f_cvLeft f_cvRight f_cvWide f_inHead f_inSize f_outHead f_outSize f_lastCode f_lastDetail f_cacheLimit f_lengthLimit f_hand f_running f_linkFrom f_exitKind f_controlDone f_trapCode f_trapDetail a_mem a_marks a_visitCount a_inQueue a_outQueue a_blockStart a_blockCount a_blockRecent a_links a_entry a_cover a_opKind a_opMode a_opArg) : wpX_step post (nI sz, f_executedCount, f_regA, f_regX, f_regS, f_pc, f_flagBits, f_znPending, f_znResult, f_cvKind, f_cvLeft, f_cvRight, f_cvWide, f_inHead, f_inSize, f_outHead, f_outSize, f_lastCode, f_lastDetail, f_cacheLimit, f_lengthLimit, f_hand, nI r, -1, 0, 0, 0, 0, a_mem, a_marks, a_visitCount, a_inQueue, a_outQueue, a_blockStart, a_blockCount, a_blockRecent, a_links, a_entry, a_cover, a_opKind, a_opMode, a_opArg) (nI idx) (nI pa) := by
  refine xk_T hi hK hM hA (by decide) (c := 8) (by decide) ?_
  refine KT 8 (nI wn) (by decide) ?_
  intro pY h
  refine yt_none hw (O := 11) (by rw [ho]; rfl) (sp_zm (by omega)) (fun P hP => ya_11 hP) ?_
  refine y5_11 ?_
  exact h
theorem sc_12 (hz32 : 32 ≤ sz) (hz : sz ≤ 256) (hr : r < 8) (hi : idx < 128) (hpa : pa < sz) (hw : wn < 65536) (G : sp_G f_regA f_regX f_regS y_fl f_flagBits f_znPending f_znResult f_cvKind f_cvLeft f_cvRight f_cvWide f_inHead f_inSize f_outHead f_outSize a_mem a_inQueue a_outQueue y_inp y_outp) (C : ca_CI sz g a_mem a_marks a_blockStart a_blockCount a_links a_entry a_cover a_opKind a_opMode a_opArg) (ho : wn / 256 = 12) (hK : a_opKind idx = 208) (hM : a_opMode idx = 0) (hA : a_opArg idx = nI wn) (KT : sp_KT post sz r pa wn y_ex y_fl y_scr y_vc y_inp y_outp f_size f_executedCount f_regA f_regX f_regS f_pc f_flagBits f_znPending f_znResult f_cvKind f_cvLeft f_cvRight f_cvWide f_inHead f_inSize f_outHead f_outSize f_lastCode f_lastDetail f_cacheLimit f_lengthLimit f_hand f_running f_linkFrom f_exitKind f_controlDone f_trapCode f_trapDetail a_mem a_marks a_visitCount a_inQueue a_outQueue a_blockStart a_blockCount a_blockRecent a_links a_entry a_cover a_opKind a_opMode a_opArg) : wpX_step post (nI sz, f_executedCount, f_regA, f_regX, f_regS, f_pc, f_flagBits, f_znPending, f_znResult, f_cvKind, f_cvLeft, f_cvRight, f_cvWide, f_inHead, f_inSize, f_outHead, f_outSize, f_lastCode, f_lastDetail, f_cacheLimit, f_lengthLimit, f_hand, nI r, -1, 0, 0, 0, 0, a_mem, a_marks, a_visitCount, a_inQueue, a_outQueue, a_blockStart, a_blockCount, a_blockRecent, a_links, a_entry, a_cover, a_opKind, a_opMode, a_opArg) (nI idx) (nI pa) := by
  refine xk_T hi hK hM hA (by decide) (c := 8) (by decide) ?_
  refine KT 8 (nI wn) (by decide) ?_
  intro pY h
  refine yt_none hw (O := 12) (by rw [ho]; rfl) (sp_zm (by omega)) (fun P hP => ya_12 hP) ?_
  refine y5_12 ?_
  exact h
theorem sc_13 (hz32 : 32 ≤ sz) (hz : sz ≤ 256) (hr : r < 8) (hi : idx < 128) (hpa : pa < sz) (hw : wn < 65536) (G : sp_G f_regA f_regX f_regS y_fl f_flagBits f_znPending f_znResult f_cvKind f_cvLeft f_cvRight f_cvWide f_inHead f_inSize f_outHead f_outSize a_mem a_inQueue a_outQueue y_inp y_outp) (C : ca_CI sz g a_mem a_marks a_blockStart a_blockCount a_links a_entry a_cover a_opKind a_opMode a_opArg) (ho : wn / 256 = 13) (hK : a_opKind idx = 208) (hM : a_opMode idx = 0) (hA : a_opArg idx = nI wn) (KT : sp_KT post sz r pa wn y_ex y_fl y_scr y_vc y_inp y_outp f_size f_executedCount f_regA f_regX f_regS f_pc f_flagBits f_znPending f_znResult f_cvKind f_cvLeft f_cvRight f_cvWide f_inHead f_inSize f_outHead f_outSize f_lastCode f_lastDetail f_cacheLimit f_lengthLimit f_hand f_running f_linkFrom f_exitKind f_controlDone f_trapCode f_trapDetail a_mem a_marks a_visitCount a_inQueue a_outQueue a_blockStart a_blockCount a_blockRecent a_links a_entry a_cover a_opKind a_opMode a_opArg) : wpX_step post (nI sz, f_executedCount, f_regA, f_regX, f_regS, f_pc, f_flagBits, f_znPending, f_znResult, f_cvKind, f_cvLeft, f_cvRight, f_cvWide, f_inHead, f_inSize, f_outHead, f_outSize, f_lastCode, f_lastDetail, f_cacheLimit, f_lengthLimit, f_hand, nI r, -1, 0, 0, 0, 0, a_mem, a_marks, a_visitCount, a_inQueue, a_outQueue, a_blockStart, a_blockCount, a_blockRecent, a_links, a_entry, a_cover, a_opKind, a_opMode, a_opArg) (nI idx) (nI pa) := by
  refine xk_T hi hK hM hA (by decide) (c := 8) (by decide) ?_
  refine KT 8 (nI wn) (by decide) ?_
  intro pY h
  refine yt_none hw (O := 13) (by rw [ho]; rfl) (sp_zm (by omega)) (fun P hP => ya_13 hP) ?_
  refine y5_13 ?_
  exact h
theorem sc_14 (hz32 : 32 ≤ sz) (hz : sz ≤ 256) (hr : r < 8) (hi : idx < 128) (hpa : pa < sz) (hw : wn < 65536) (G : sp_G f_regA f_regX f_regS y_fl f_flagBits f_znPending f_znResult f_cvKind f_cvLeft f_cvRight f_cvWide f_inHead f_inSize f_outHead f_outSize a_mem a_inQueue a_outQueue y_inp y_outp) (C : ca_CI sz g a_mem a_marks a_blockStart a_blockCount a_links a_entry a_cover a_opKind a_opMode a_opArg) (ho : wn / 256 = 14) (hK : a_opKind idx = 208) (hM : a_opMode idx = 0) (hA : a_opArg idx = nI wn) (KT : sp_KT post sz r pa wn y_ex y_fl y_scr y_vc y_inp y_outp f_size f_executedCount f_regA f_regX f_regS f_pc f_flagBits f_znPending f_znResult f_cvKind f_cvLeft f_cvRight f_cvWide f_inHead f_inSize f_outHead f_outSize f_lastCode f_lastDetail f_cacheLimit f_lengthLimit f_hand f_running f_linkFrom f_exitKind f_controlDone f_trapCode f_trapDetail a_mem a_marks a_visitCount a_inQueue a_outQueue a_blockStart a_blockCount a_blockRecent a_links a_entry a_cover a_opKind a_opMode a_opArg) : wpX_step post (nI sz, f_executedCount, f_regA, f_regX, f_regS, f_pc, f_flagBits, f_znPending, f_znResult, f_cvKind, f_cvLeft, f_cvRight, f_cvWide, f_inHead, f_inSize, f_outHead, f_outSize, f_lastCode, f_lastDetail, f_cacheLimit, f_lengthLimit, f_hand, nI r, -1, 0, 0, 0, 0, a_mem, a_marks, a_visitCount, a_inQueue, a_outQueue, a_blockStart, a_blockCount, a_blockRecent, a_links, a_entry, a_cover, a_opKind, a_opMode, a_opArg) (nI idx) (nI pa) := by
  refine xk_T hi hK hM hA (by decide) (c := 8) (by decide) ?_
  refine KT 8 (nI wn) (by decide) ?_
  intro pY h
  refine yt_none hw (O := 14) (by rw [ho]; rfl) (sp_zm (by omega)) (fun P hP => ya_14 hP) ?_
  refine y5_14 ?_
  exact h
theorem sc_15 (hz32 : 32 ≤ sz) (hz : sz ≤ 256) (hr : r < 8) (hi : idx < 128) (hpa : pa < sz) (hw : wn < 65536) (G : sp_G f_regA f_regX f_regS y_fl f_flagBits f_znPending f_znResult f_cvKind f_cvLeft f_cvRight f_cvWide f_inHead f_inSize f_outHead f_outSize a_mem a_inQueue a_outQueue y_inp y_outp) (C : ca_CI sz g a_mem a_marks a_blockStart a_blockCount a_links a_entry a_cover a_opKind a_opMode a_opArg) (ho : wn / 256 = 15) (hK : a_opKind idx = 208) (hM : a_opMode idx = 0) (hA : a_opArg idx = nI wn) (KT : sp_KT post sz r pa wn y_ex y_fl y_scr y_vc y_inp y_outp f_size f_executedCount f_regA f_regX f_regS f_pc f_flagBits f_znPending f_znResult f_cvKind f_cvLeft f_cvRight f_cvWide f_inHead f_inSize f_outHead f_outSize f_lastCode f_lastDetail f_cacheLimit f_lengthLimit f_hand f_running f_linkFrom f_exitKind f_controlDone f_trapCode f_trapDetail a_mem a_marks a_visitCount a_inQueue a_outQueue a_blockStart a_blockCount a_blockRecent a_links a_entry a_cover a_opKind a_opMode a_opArg) : wpX_step post (nI sz, f_executedCount, f_regA, f_regX, f_regS, f_pc, f_flagBits, f_znPending, f_znResult, f_cvKind, f_cvLeft, f_cvRight, f_cvWide, f_inHead, f_inSize, f_outHead, f_outSize, f_lastCode, f_lastDetail, f_cacheLimit, f_lengthLimit, f_hand, nI r, -1, 0, 0, 0, 0, a_mem, a_marks, a_visitCount, a_inQueue, a_outQueue, a_blockStart, a_blockCount, a_blockRecent, a_links, a_entry, a_cover, a_opKind, a_opMode, a_opArg) (nI idx) (nI pa) := by
  refine xk_T hi hK hM hA (by decide) (c := 8) (by decide) ?_
  refine KT 8 (nI wn) (by decide) ?_
  intro pY h
  refine yt_none hw (O := 15) (by rw [ho]; rfl) (sp_zm (by omega)) (fun P hP => ya_15 hP) ?_
  refine y5_15 ?_
  exact h
theorem sc_30 (hz32 : 32 ≤ sz) (hz : sz ≤ 256) (hr : r < 8) (hi : idx < 128) (hpa : pa < sz) (hw : wn < 65536) (G : sp_G f_regA f_regX f_regS y_fl f_flagBits f_znPending f_znResult f_cvKind f_cvLeft f_cvRight f_cvWide f_inHead f_inSize f_outHead f_outSize a_mem a_inQueue a_outQueue y_inp y_outp) (C : ca_CI sz g a_mem a_marks a_blockStart a_blockCount a_links a_entry a_cover a_opKind a_opMode a_opArg) (ho : wn / 256 = 30) (hK : a_opKind idx = 208) (hM : a_opMode idx = 0) (hA : a_opArg idx = nI wn) (KT : sp_KT post sz r pa wn y_ex y_fl y_scr y_vc y_inp y_outp f_size f_executedCount f_regA f_regX f_regS f_pc f_flagBits f_znPending f_znResult f_cvKind f_cvLeft f_cvRight f_cvWide f_inHead f_inSize f_outHead f_outSize f_lastCode f_lastDetail f_cacheLimit f_lengthLimit f_hand f_running f_linkFrom f_exitKind f_controlDone f_trapCode f_trapDetail a_mem a_marks a_visitCount a_inQueue a_outQueue a_blockStart a_blockCount a_blockRecent a_links a_entry a_cover a_opKind a_opMode a_opArg) : wpX_step post (nI sz, f_executedCount, f_regA, f_regX, f_regS, f_pc, f_flagBits, f_znPending, f_znResult, f_cvKind, f_cvLeft, f_cvRight, f_cvWide, f_inHead, f_inSize, f_outHead, f_outSize, f_lastCode, f_lastDetail, f_cacheLimit, f_lengthLimit, f_hand, nI r, -1, 0, 0, 0, 0, a_mem, a_marks, a_visitCount, a_inQueue, a_outQueue, a_blockStart, a_blockCount, a_blockRecent, a_links, a_entry, a_cover, a_opKind, a_opMode, a_opArg) (nI idx) (nI pa) := by
  refine xk_T hi hK hM hA (by decide) (c := 8) (by decide) ?_
  refine KT 8 (nI wn) (by decide) ?_
  intro pY h
  refine yt_none hw (O := 30) (by rw [ho]; rfl) (sp_zm (by omega)) (fun P hP => ya_30 hP) ?_
  refine y5_30 ?_
  exact h
theorem sc_31 (hz32 : 32 ≤ sz) (hz : sz ≤ 256) (hr : r < 8) (hi : idx < 128) (hpa : pa < sz) (hw : wn < 65536) (G : sp_G f_regA f_regX f_regS y_fl f_flagBits f_znPending f_znResult f_cvKind f_cvLeft f_cvRight f_cvWide f_inHead f_inSize f_outHead f_outSize a_mem a_inQueue a_outQueue y_inp y_outp) (C : ca_CI sz g a_mem a_marks a_blockStart a_blockCount a_links a_entry a_cover a_opKind a_opMode a_opArg) (ho : wn / 256 = 31) (hK : a_opKind idx = 208) (hM : a_opMode idx = 0) (hA : a_opArg idx = nI wn) (KT : sp_KT post sz r pa wn y_ex y_fl y_scr y_vc y_inp y_outp f_size f_executedCount f_regA f_regX f_regS f_pc f_flagBits f_znPending f_znResult f_cvKind f_cvLeft f_cvRight f_cvWide f_inHead f_inSize f_outHead f_outSize f_lastCode f_lastDetail f_cacheLimit f_lengthLimit f_hand f_running f_linkFrom f_exitKind f_controlDone f_trapCode f_trapDetail a_mem a_marks a_visitCount a_inQueue a_outQueue a_blockStart a_blockCount a_blockRecent a_links a_entry a_cover a_opKind a_opMode a_opArg) : wpX_step post (nI sz, f_executedCount, f_regA, f_regX, f_regS, f_pc, f_flagBits, f_znPending, f_znResult, f_cvKind, f_cvLeft, f_cvRight, f_cvWide, f_inHead, f_inSize, f_outHead, f_outSize, f_lastCode, f_lastDetail, f_cacheLimit, f_lengthLimit, f_hand, nI r, -1, 0, 0, 0, 0, a_mem, a_marks, a_visitCount, a_inQueue, a_outQueue, a_blockStart, a_blockCount, a_blockRecent, a_links, a_entry, a_cover, a_opKind, a_opMode, a_opArg) (nI idx) (nI pa) := by
  refine xk_T hi hK hM hA (by decide) (c := 8) (by decide) ?_
  refine KT 8 (nI wn) (by decide) ?_
  intro pY h
  refine yt_none hw (O := 31) (by rw [ho]; rfl) (sp_zm (by omega)) (fun P hP => ya_31 hP) ?_
  refine y5_31 ?_
  exact h
theorem sc_ill (hz32 : 32 ≤ sz) (hz : sz ≤ 256) (hr : r < 8) (hi : idx < 128) (hpa : pa < sz) (hw : wn < 65536) (G : sp_G f_regA f_regX f_regS y_fl f_flagBits f_znPending f_znResult f_cvKind f_cvLeft f_cvRight f_cvWide f_inHead f_inSize f_outHead f_outSize a_mem a_inQueue a_outQueue y_inp y_outp) (C : ca_CI sz g a_mem a_marks a_blockStart a_blockCount a_links a_entry a_cover a_opKind a_opMode a_opArg) (h41 : 41 ≤ wn / 256) (hl : wn / 256 < 64 ∨ 107 < wn / 256) (hK : a_opKind idx = 208) (hM : a_opMode idx = 0) (hA : a_opArg idx = nI wn) (KT : sp_KT post sz r pa wn y_ex y_fl y_scr y_vc y_inp y_outp f_size f_executedCount f_regA f_regX f_regS f_pc f_flagBits f_znPending f_znResult f_cvKind f_cvLeft f_cvRight f_cvWide f_inHead f_inSize f_outHead f_outSize f_lastCode f_lastDetail f_cacheLimit f_lengthLimit f_hand f_running f_linkFrom f_exitKind f_controlDone f_trapCode f_trapDetail a_mem a_marks a_visitCount a_inQueue a_outQueue a_blockStart a_blockCount a_blockRecent a_links a_entry a_cover a_opKind a_opMode a_opArg) : wpX_step post (nI sz, f_executedCount, f_regA, f_regX, f_regS, f_pc, f_flagBits, f_znPending, f_znResult, f_cvKind, f_cvLeft, f_cvRight, f_cvWide, f_inHead, f_inSize, f_outHead, f_outSize, f_lastCode, f_lastDetail, f_cacheLimit, f_lengthLimit, f_hand, nI r, -1, 0, 0, 0, 0, a_mem, a_marks, a_visitCount, a_inQueue, a_outQueue, a_blockStart, a_blockCount, a_blockRecent, a_links, a_entry, a_cover, a_opKind, a_opMode, a_opArg) (nI idx) (nI pa) := by
  have ho : wn / 256 < 256 := by omega
  refine xk_T hi hK hM hA (by decide) (c := 8) (by decide) ?_
  refine KT 8 (nI wn) (by decide) ?_
  intro pY h
  refine yt_none hw rfl (sp_zm (by omega)) (fun P hP => ya_ill h41 ho hl hP) ?_
  refine y5_ill h41 ho hl ?_
  exact h
theorem sc_32T (hz32 : 32 ≤ sz) (hz : sz ≤ 256) (hr : r < 8) (hi : idx < 128) (hpa : pa < sz) (hw : wn < 65536) (G : sp_G f_regA f_regX f_regS y_fl f_flagBits f_znPending f_znResult f_cvKind f_cvLeft f_cvRight f_cvWide f_inHead f_inSize f_outHead f_outSize a_mem a_inQueue a_outQueue y_inp y_outp) (C : ca_CI sz g a_mem a_marks a_blockStart a_blockCount a_links a_entry a_cover a_opKind a_opMode a_opArg) (ho : wn / 256 = 32) (hn : sz ≤ wn % 256) (hK : a_opKind idx = 209) (hM : a_opMode idx = 0) (hA : a_opArg idx = nI (wn % 256)) (KT : sp_KT post sz r pa wn y_ex y_fl y_scr y_vc y_inp y_outp f_size f_executedCount f_regA f_regX f_regS f_pc f_flagBits f_znPending f_znResult f_cvKind f_cvLeft f_cvRight f_cvWide f_inHead f_inSize f_outHead f_outSize f_lastCode f_lastDetail f_cacheLimit f_lengthLimit f_hand f_running f_linkFrom f_exitKind f_controlDone f_trapCode f_trapDetail a_mem a_marks a_visitCount a_inQueue a_outQueue a_blockStart a_blockCount a_blockRecent a_links a_entry a_cover a_opKind a_opMode a_opArg) : wpX_step post (nI sz, f_executedCount, f_regA, f_regX, f_regS, f_pc, f_flagBits, f_znPending, f_znResult, f_cvKind, f_cvLeft, f_cvRight, f_cvWide, f_inHead, f_inSize, f_outHead, f_outSize, f_lastCode, f_lastDetail, f_cacheLimit, f_lengthLimit, f_hand, nI r, -1, 0, 0, 0, 0, a_mem, a_marks, a_visitCount, a_inQueue, a_outQueue, a_blockStart, a_blockCount, a_blockRecent, a_links, a_entry, a_cover, a_opKind, a_opMode, a_opArg) (nI idx) (nI pa) := by
  refine xk_T hi hK hM hA (by decide) (c := 9) (by decide) ?_
  refine KT 9 _ (by decide) ?_
  intro pY h
  refine yt_trap hw (O := 32) (by rw [ho]; rfl) (nI_nlt hn (by omega)) (fun P hP => ya_32 rfl hP) ?_
  exact h
theorem sc_34T (hz32 : 32 ≤ sz) (hz : sz ≤ 256) (hr : r < 8) (hi : idx < 128) (hpa : pa < sz) (hw : wn < 65536) (G : sp_G f_regA f_regX f_regS y_fl f_flagBits f_znPending f_znResult f_cvKind f_cvLeft f_cvRight f_cvWide f_inHead f_inSize f_outHead f_outSize a_mem a_inQueue a_outQueue y_inp y_outp) (C : ca_CI sz g a_mem a_marks a_blockStart a_blockCount a_links a_entry a_cover a_opKind a_opMode a_opArg) (ho : wn / 256 = 34) (hn : sz ≤ wn % 256) (hK : a_opKind idx = 209) (hM : a_opMode idx = 0) (hA : a_opArg idx = nI (wn % 256)) (KT : sp_KT post sz r pa wn y_ex y_fl y_scr y_vc y_inp y_outp f_size f_executedCount f_regA f_regX f_regS f_pc f_flagBits f_znPending f_znResult f_cvKind f_cvLeft f_cvRight f_cvWide f_inHead f_inSize f_outHead f_outSize f_lastCode f_lastDetail f_cacheLimit f_lengthLimit f_hand f_running f_linkFrom f_exitKind f_controlDone f_trapCode f_trapDetail a_mem a_marks a_visitCount a_inQueue a_outQueue a_blockStart a_blockCount a_blockRecent a_links a_entry a_cover a_opKind a_opMode a_opArg) : wpX_step post (nI sz, f_executedCount, f_regA, f_regX, f_regS, f_pc, f_flagBits, f_znPending, f_znResult, f_cvKind, f_cvLeft, f_cvRight, f_cvWide, f_inHead, f_inSize, f_outHead, f_outSize, f_lastCode, f_lastDetail, f_cacheLimit, f_lengthLimit, f_hand, nI r, -1, 0, 0, 0, 0, a_mem, a_marks, a_visitCount, a_inQueue, a_outQueue, a_blockStart, a_blockCount, a_blockRecent, a_links, a_entry, a_cover, a_opKind, a_opMode, a_opArg) (nI idx) (nI pa) := by
  refine xk_T hi hK hM hA (by decide) (c := 9) (by decide) ?_
  refine KT 9 _ (by decide) ?_
  intro pY h
  refine yt_trap hw (O := 34) (by rw [ho]; rfl) (nI_nlt hn (by omega)) (fun P hP => ya_34 rfl hP) ?_
  exact h
theorem sc_35T (hz32 : 32 ≤ sz) (hz : sz ≤ 256) (hr : r < 8) (hi : idx < 128) (hpa : pa < sz) (hw : wn < 65536) (G : sp_G f_regA f_regX f_regS y_fl f_flagBits f_znPending f_znResult f_cvKind f_cvLeft f_cvRight f_cvWide f_inHead f_inSize f_outHead f_outSize a_mem a_inQueue a_outQueue y_inp y_outp) (C : ca_CI sz g a_mem a_marks a_blockStart a_blockCount a_links a_entry a_cover a_opKind a_opMode a_opArg) (ho : wn / 256 = 35) (hn : sz ≤ wn % 256) (hK : a_opKind idx = 209) (hM : a_opMode idx = 0) (hA : a_opArg idx = nI (wn % 256)) (KT : sp_KT post sz r pa wn y_ex y_fl y_scr y_vc y_inp y_outp f_size f_executedCount f_regA f_regX f_regS f_pc f_flagBits f_znPending f_znResult f_cvKind f_cvLeft f_cvRight f_cvWide f_inHead f_inSize f_outHead f_outSize f_lastCode f_lastDetail f_cacheLimit f_lengthLimit f_hand f_running f_linkFrom f_exitKind f_controlDone f_trapCode f_trapDetail a_mem a_marks a_visitCount a_inQueue a_outQueue a_blockStart a_blockCount a_blockRecent a_links a_entry a_cover a_opKind a_opMode a_opArg) : wpX_step post (nI sz, f_executedCount, f_regA, f_regX, f_regS, f_pc, f_flagBits, f_znPending, f_znResult, f_cvKind, f_cvLeft, f_cvRight, f_cvWide, f_inHead, f_inSize, f_outHead, f_outSize, f_lastCode, f_lastDetail, f_cacheLimit, f_lengthLimit, f_hand, nI r, -1, 0, 0, 0, 0, a_mem, a_marks, a_visitCount, a_inQueue, a_outQueue, a_blockStart, a_blockCount, a_blockRecent, a_links, a_entry, a_cover, a_opKind, a_opMode, a_opArg) (nI idx) (nI pa) := by
  refine xk_T hi hK hM hA (by decide) (c := 9) (by decide) ?_
  refine KT 9 _ (by decide) ?_
  intro pY h
  refine yt_trap hw (O := 35) (by rw [ho]; rfl) (nI_nlt hn (by omega)) (fun P hP => ya_35 rfl hP) ?_
  exact h
theorem sc_op1T (hz32 : 32 ≤ sz) (hz : sz ≤ 256) (hr : r < 8) (hi : idx < 128) (hpa : pa < sz) (hw : wn < 65536) (G : sp_G f_regA f_regX f_regS y_fl f_flagBits f_znPending f_znResult f_cvKind f_cvLeft f_cvRight f_cvWide f_inHead f_inSize f_outHead f_outSize a_mem a_inQueue a_outQueue y_inp y_outp) (C : ca_CI sz g a_mem a_marks a_blockStart a_blockCount a_links a_entry a_cover a_opKind a_opMode a_opArg) (h64 : 64 ≤ wn / 256) (h107 : wn / 256 ≤ 107) (hm : wn / 256 % 4 = 1) (hn : sz ≤ wn % 256) (hK : a_opKind idx = 209) (hM : a_opMode idx = 0) (hA : a_opArg idx = nI (wn % 256)) (KT : sp_KT post sz r pa wn y_ex y_fl y_scr y_vc y_inp y_outp f_size f_executedCount f_regA f_regX f_regS f_pc f_flagBits f_znPending f_znResult f_cvKind f_cvLeft f_cvRight f_cvWide f_inHead f_inSize f_outHead f_outSize f_lastCode f_lastDetail f_cacheLimit f_lengthLimit f_hand f_running f_linkFrom f_exitKind f_controlDone f_trapCode f_trapDetail a_mem a_marks a_visitCount a_inQueue a_outQueue a_blockStart a_blockCount a_blockRecent a_links a_entry a_cover a_opKind a_opMode a_opArg) : wpX_step post (nI sz, f_executedCount, f_regA, f_regX, f_regS, f_pc, f_flagBits, f_znPending, f_znResult, f_cvKind, f_cvLeft, f_cvRight, f_cvWide, f_inHead, f_inSize, f_outHead, f_outSize, f_lastCode, f_lastDetail, f_cacheLimit, f_lengthLimit, f_hand, nI r, -1, 0, 0, 0, 0, a_mem, a_marks, a_visitCount, a_inQueue, a_outQueue, a_blockStart, a_blockCount, a_blockRecent, a_links, a_entry, a_cover, a_opKind, a_opMode, a_opArg) (nI idx) (nI pa) := by
  refine xk_T hi hK hM hA (by decide) (c := 9) (by decide) ?_
  refine KT 9 _ (by decide) ?_
  intro pY h
  refine yt_trap hw rfl (nI_nlt hn (by omega)) (fun P hP => ya_op1 h64 h107 hm rfl hP) ?_
  exact h
theorem sc_div0 (hz32 : 32 ≤ sz) (hz : sz ≤ 256) (hr : r < 8) (hi : idx < 128) (hpa : pa < sz) (hw : wn < 65536) (G : sp_G f_regA f_regX f_regS y_fl f_flagBits f_znPending f_znResult f_cvKind f_cvLeft f_cvRight f_cvWide f_inHead f_inSize f_outHead f_outSize a_mem a_inQueue a_outQueue y_inp y_outp) (C : ca_CI sz g a_mem a_marks a_blockStart a_blockCount a_links a_entry a_cover a_opKind a_opMode a_opArg) (h64 : 64 ≤ wn / 256) (h107 : wn / 256 ≤ 107) (hf : (wn / 256 - 64) / 4 = 9) (hm : wn / 256 % 4 = 0) (hn : wn % 256 = 0) (hK : a_opKind idx = 210) (hM : a_opMode idx = 0) (hA : a_opArg idx = 0) (KT : sp_KT post sz r pa wn y_ex y_fl y_scr y_vc y_inp y_outp f_size f_executedCount f_regA f_regX f_regS f_pc f_flagBits f_znPending f_znResult f_cvKind f_cvLeft f_cvRight f_cvWide f_inHead f_inSize f_outHead f_outSize f_lastCode f_lastDetail f_cacheLimit f_lengthLimit f_hand f_running f_linkFrom f_exitKind f_controlDone f_trapCode f_trapDetail a_mem a_marks a_visitCount a_inQueue a_outQueue a_blockStart a_blockCount a_blockRecent a_links a_entry a_cover a_opKind a_opMode a_opArg) : wpX_step post (nI sz, f_executedCount, f_regA, f_regX, f_regS, f_pc, f_flagBits, f_znPending, f_znResult, f_cvKind, f_cvLeft, f_cvRight, f_cvWide, f_inHead, f_inSize, f_outHead, f_outSize, f_lastCode, f_lastDetail, f_cacheLimit, f_lengthLimit, f_hand, nI r, -1, 0, 0, 0, 0, a_mem, a_marks, a_visitCount, a_inQueue, a_outQueue, a_blockStart, a_blockCount, a_blockRecent, a_links, a_entry, a_cover, a_opKind, a_opMode, a_opArg) (nI idx) (nI pa) := by
  obtain ⟨wA, wX, wS, wM, hF, hI, hO⟩ := G
  refine xk_T hi hK hM hA (by decide) (c := 10) (by decide) ?_
  refine KT 10 0 (by decide) ?_
  intro pY h
  refine yt_none hw rfl (sp_zm (by omega)) (fun P hP => ya_op0 h64 h107 hm rfl hP) ?_
  refine yq_9T (c := fg_cb f_flagBits f_cvKind f_cvWide) h64 h107 hf (v := nI (wn % 256)) (fun _ => rfl) (fun q => by omega) (fun q => by omega) (fg_cbB _ _ _) (sp_hc (fg_zbB _ _ _) (fg_nbB _ _ _) (fg_cbB _ _ _) (fg_vbB _ _ _ _ _) hF) (by rw [hn]; rfl) ?_
  exact h
theorem sp_lsr {x : Int32} (h : ab_W x) : ab_W (x >>> ((1 : Int32) &&& 31)) := by
  obtain ⟨n, hn, rfl⟩ := h
  exact ⟨n / 2, by omega, pk_shrN (by omega) _ 1 (by decide)⟩
theorem sp_and1 {x : Int32} : (if x &&& 1 = 0 then (0 : Int32) else 1) = x &&& 1 := by
  rcases fg_and1 x with h | h <;> rw [h] <;> decide
theorem sc_1 (hz32 : 32 ≤ sz) (hz : sz ≤ 256) (hr : r < 8) (hi : idx < 128) (hpa : pa < sz) (hw : wn < 65536) (G : sp_G f_regA f_regX f_regS y_fl f_flagBits f_znPending f_znResult f_cvKind f_cvLeft f_cvRight f_cvWide f_inHead f_inSize f_outHead f_outSize a_mem a_inQueue a_outQueue y_inp y_outp) (C : ca_CI sz g a_mem a_marks a_blockStart a_blockCount a_links a_entry a_cover a_opKind a_opMode a_opArg) (ho : wn / 256 = 1) (hK : a_opKind idx = 1) (hM : a_opMode idx = 0) (hA : a_opArg idx = nI (wn % 256)) (KD : sp_KD post sz r idx pa wn g y_ex y_fl y_scr y_vc y_inp y_outp f_size f_executedCount f_regA f_regX f_regS f_pc f_flagBits f_znPending f_znResult f_cvKind f_cvLeft f_cvRight f_cvWide f_inHead f_inSize f_outHead f_outSize f_lastCode f_lastDetail f_cacheLimit f_lengthLimit f_hand f_running f_linkFrom f_exitKind f_controlDone f_trapCode f_trapDetail a_mem a_marks a_visitCount a_inQueue a_outQueue a_blockStart a_blockCount a_blockRecent a_links a_entry a_cover a_opKind a_opMode a_opArg) : wpX_step post (nI sz, f_executedCount, f_regA, f_regX, f_regS, f_pc, f_flagBits, f_znPending, f_znResult, f_cvKind, f_cvLeft, f_cvRight, f_cvWide, f_inHead, f_inSize, f_outHead, f_outSize, f_lastCode, f_lastDetail, f_cacheLimit, f_lengthLimit, f_hand, nI r, -1, 0, 0, 0, 0, a_mem, a_marks, a_visitCount, a_inQueue, a_outQueue, a_blockStart, a_blockCount, a_blockRecent, a_links, a_entry, a_cover, a_opKind, a_opMode, a_opArg) (nI idx) (nI pa) := by
  have G' := G
  obtain ⟨wA, wX, wS, wM, hF, hI, hO⟩ := G'
  refine xk_1 hi hK hM hA (nI_lt (a := 0) (by omega) (by omega)) ?_
  refine KD y_fl (nI (pa + 1)) y_inp y_outp g _ _ _ _ _ _ _ _ _ _ _ _ _ _ _ _ _ _ _ _ _ _ _ _ _ _ _ ?_ C ca_DRr ?_ ?_
  · exact G
  · exact Or.inl ⟨rfl, rfl, rfl, by omega⟩
  · intro pY h
    refine yt_none hw (O := 1) (by rw [ho]; rfl) (sp_zm (by omega)) (fun P hP => ya_1 hP) ?_
    refine y5_1 ?_
    exact h
theorem sc_2 (hz32 : 32 ≤ sz) (hz : sz ≤ 256) (hr : r < 8) (hi : idx < 128) (hpa : pa < sz) (hw : wn < 65536) (G : sp_G f_regA f_regX f_regS y_fl f_flagBits f_znPending f_znResult f_cvKind f_cvLeft f_cvRight f_cvWide f_inHead f_inSize f_outHead f_outSize a_mem a_inQueue a_outQueue y_inp y_outp) (C : ca_CI sz g a_mem a_marks a_blockStart a_blockCount a_links a_entry a_cover a_opKind a_opMode a_opArg) (ho : wn / 256 = 2) (hK : a_opKind idx = 2) (hM : a_opMode idx = 0) (hA : a_opArg idx = nI (wn % 256)) (KD : sp_KD post sz r idx pa wn g y_ex y_fl y_scr y_vc y_inp y_outp f_size f_executedCount f_regA f_regX f_regS f_pc f_flagBits f_znPending f_znResult f_cvKind f_cvLeft f_cvRight f_cvWide f_inHead f_inSize f_outHead f_outSize f_lastCode f_lastDetail f_cacheLimit f_lengthLimit f_hand f_running f_linkFrom f_exitKind f_controlDone f_trapCode f_trapDetail a_mem a_marks a_visitCount a_inQueue a_outQueue a_blockStart a_blockCount a_blockRecent a_links a_entry a_cover a_opKind a_opMode a_opArg) : wpX_step post (nI sz, f_executedCount, f_regA, f_regX, f_regS, f_pc, f_flagBits, f_znPending, f_znResult, f_cvKind, f_cvLeft, f_cvRight, f_cvWide, f_inHead, f_inSize, f_outHead, f_outSize, f_lastCode, f_lastDetail, f_cacheLimit, f_lengthLimit, f_hand, nI r, -1, 0, 0, 0, 0, a_mem, a_marks, a_visitCount, a_inQueue, a_outQueue, a_blockStart, a_blockCount, a_blockRecent, a_links, a_entry, a_cover, a_opKind, a_opMode, a_opArg) (nI idx) (nI pa) := by
  have G' := G
  obtain ⟨wA, wX, wS, wM, hF, hI, hO⟩ := G'
  refine xk_2 hi hK hM hA (nI_lt (a := 0) (by omega) (by omega)) ?_
  refine KD y_fl (nI (pa + 1)) y_inp y_outp g _ _ _ _ _ _ _ _ _ _ _ _ _ _ _ _ _ _ _ _ _ _ _ _ _ _ _ ?_ C ca_DRr ?_ ?_
  · exact ⟨wA, wA, wS, wM, hF, hI, hO⟩
  · exact Or.inl ⟨rfl, rfl, rfl, by omega⟩
  · intro pY h
    refine yt_none hw (O := 2) (by rw [ho]; rfl) (sp_zm (by omega)) (fun P hP => ya_2 hP) ?_
    refine y5_2 ?_
    exact h
theorem sc_3 (hz32 : 32 ≤ sz) (hz : sz ≤ 256) (hr : r < 8) (hi : idx < 128) (hpa : pa < sz) (hw : wn < 65536) (G : sp_G f_regA f_regX f_regS y_fl f_flagBits f_znPending f_znResult f_cvKind f_cvLeft f_cvRight f_cvWide f_inHead f_inSize f_outHead f_outSize a_mem a_inQueue a_outQueue y_inp y_outp) (C : ca_CI sz g a_mem a_marks a_blockStart a_blockCount a_links a_entry a_cover a_opKind a_opMode a_opArg) (ho : wn / 256 = 3) (hK : a_opKind idx = 3) (hM : a_opMode idx = 0) (hA : a_opArg idx = nI (wn % 256)) (KD : sp_KD post sz r idx pa wn g y_ex y_fl y_scr y_vc y_inp y_outp f_size f_executedCount f_regA f_regX f_regS f_pc f_flagBits f_znPending f_znResult f_cvKind f_cvLeft f_cvRight f_cvWide f_inHead f_inSize f_outHead f_outSize f_lastCode f_lastDetail f_cacheLimit f_lengthLimit f_hand f_running f_linkFrom f_exitKind f_controlDone f_trapCode f_trapDetail a_mem a_marks a_visitCount a_inQueue a_outQueue a_blockStart a_blockCount a_blockRecent a_links a_entry a_cover a_opKind a_opMode a_opArg) : wpX_step post (nI sz, f_executedCount, f_regA, f_regX, f_regS, f_pc, f_flagBits, f_znPending, f_znResult, f_cvKind, f_cvLeft, f_cvRight, f_cvWide, f_inHead, f_inSize, f_outHead, f_outSize, f_lastCode, f_lastDetail, f_cacheLimit, f_lengthLimit, f_hand, nI r, -1, 0, 0, 0, 0, a_mem, a_marks, a_visitCount, a_inQueue, a_outQueue, a_blockStart, a_blockCount, a_blockRecent, a_links, a_entry, a_cover, a_opKind, a_opMode, a_opArg) (nI idx) (nI pa) := by
  have G' := G
  obtain ⟨wA, wX, wS, wM, hF, hI, hO⟩ := G'
  refine xk_3 hi hK hM hA (nI_lt (a := 0) (by omega) (by omega)) ?_
  refine KD y_fl (nI (pa + 1)) y_inp y_outp g _ _ _ _ _ _ _ _ _ _ _ _ _ _ _ _ _ _ _ _ _ _ _ _ _ _ _ ?_ C ca_DRr ?_ ?_
  · exact ⟨wA, wX, wX, wM, hF, hI, hO⟩
  · exact Or.inl ⟨rfl, rfl, rfl, by omega⟩
  · intro pY h
    refine yt_none hw (O := 3) (by rw [ho]; rfl) (sp_zm (by omega)) (fun P hP => ya_3 hP) ?_
    refine y5_3 ?_
    exact h
theorem sc_4 (hz32 : 32 ≤ sz) (hz : sz ≤ 256) (hr : r < 8) (hi : idx < 128) (hpa : pa < sz) (hw : wn < 65536) (G : sp_G f_regA f_regX f_regS y_fl f_flagBits f_znPending f_znResult f_cvKind f_cvLeft f_cvRight f_cvWide f_inHead f_inSize f_outHead f_outSize a_mem a_inQueue a_outQueue y_inp y_outp) (C : ca_CI sz g a_mem a_marks a_blockStart a_blockCount a_links a_entry a_cover a_opKind a_opMode a_opArg) (ho : wn / 256 = 4) (hK : a_opKind idx = 4) (hM : a_opMode idx = 0) (hA : a_opArg idx = nI (wn % 256)) (KD : sp_KD post sz r idx pa wn g y_ex y_fl y_scr y_vc y_inp y_outp f_size f_executedCount f_regA f_regX f_regS f_pc f_flagBits f_znPending f_znResult f_cvKind f_cvLeft f_cvRight f_cvWide f_inHead f_inSize f_outHead f_outSize f_lastCode f_lastDetail f_cacheLimit f_lengthLimit f_hand f_running f_linkFrom f_exitKind f_controlDone f_trapCode f_trapDetail a_mem a_marks a_visitCount a_inQueue a_outQueue a_blockStart a_blockCount a_blockRecent a_links a_entry a_cover a_opKind a_opMode a_opArg) : wpX_step post (nI sz, f_executedCount, f_regA, f_regX, f_regS, f_pc, f_flagBits, f_znPending, f_znResult, f_cvKind, f_cvLeft, f_cvRight, f_cvWide, f_inHead, f_inSize, f_outHead, f_outSize, f_lastCode, f_lastDetail, f_cacheLimit, f_lengthLimit, f_hand, nI r, -1, 0, 0, 0, 0, a_mem, a_marks, a_visitCount, a_inQueue, a_outQueue, a_blockStart, a_blockCount, a_blockRecent, a_links, a_entry, a_cover, a_opKind, a_opMode, a_opArg) (nI idx) (nI pa) := by
  have G' := G
  obtain ⟨wA, wX, wS, wM, hF, hI, hO⟩ := G'
  refine xk_4 hi hK hM hA (nI_lt (a := 0) (by omega) (by omega)) ?_
  refine KD y_fl (nI (pa + 1)) y_inp y_outp g _ _ _ _ _ _ _ _ _ _ _ _ _ _ _ _ _ _ _ _ _ _ _ _ _ _ _ ?_ C ca_DRr ?_ ?_
  · exact ⟨wA, wS, wS, wM, hF, hI, hO⟩
  · exact Or.inl ⟨rfl, rfl, rfl, by omega⟩
  · intro pY h
    refine yt_none hw (O := 4) (by rw [ho]; rfl) (sp_zm (by omega)) (fun P hP => ya_4 hP) ?_
    refine y5_4 ?_
    exact h
theorem sc_5 (hz32 : 32 ≤ sz) (hz : sz ≤ 256) (hr : r < 8) (hi : idx < 128) (hpa : pa < sz) (hw : wn < 65536) (G : sp_G f_regA f_regX f_regS y_fl f_flagBits f_znPending f_znResult f_cvKind f_cvLeft f_cvRight f_cvWide f_inHead f_inSize f_outHead f_outSize a_mem a_inQueue a_outQueue y_inp y_outp) (C : ca_CI sz g a_mem a_marks a_blockStart a_blockCount a_links a_entry a_cover a_opKind a_opMode a_opArg) (ho : wn / 256 = 5) (hK : a_opKind idx = 5) (hM : a_opMode idx = 0) (hA : a_opArg idx = nI (wn % 256)) (KD : sp_KD post sz r idx pa wn g y_ex y_fl y_scr y_vc y_inp y_outp f_size f_executedCount f_regA f_regX f_regS f_pc f_flagBits f_znPending f_znResult f_cvKind f_cvLeft f_cvRight f_cvWide f_inHead f_inSize f_outHead f_outSize f_lastCode f_lastDetail f_cacheLimit f_lengthLimit f_hand f_running f_linkFrom f_exitKind f_controlDone f_trapCode f_trapDetail a_mem a_marks a_visitCount a_inQueue a_outQueue a_blockStart a_blockCount a_blockRecent a_links a_entry a_cover a_opKind a_opMode a_opArg) : wpX_step post (nI sz, f_executedCount, f_regA, f_regX, f_regS, f_pc, f_flagBits, f_znPending, f_znResult, f_cvKind, f_cvLeft, f_cvRight, f_cvWide, f_inHead, f_inSize, f_outHead, f_outSize, f_lastCode, f_lastDetail, f_cacheLimit, f_lengthLimit, f_hand, nI r, -1, 0, 0, 0, 0, a_mem, a_marks, a_visitCount, a_inQueue, a_outQueue, a_blockStart, a_blockCount, a_blockRecent, a_links, a_entry, a_cover, a_opKind, a_opMode, a_opArg) (nI idx) (nI pa) := by
  have G' := G
  obtain ⟨wA, wX, wS, wM, hF, hI, hO⟩ := G'
  refine xk_5 hi hK hM hA (nI_lt (a := 0) (by omega) (by omega)) ?_
  refine KD (fg_zn y_fl ((f_regX + 1) &&& 65535)) (nI (pa + 1)) y_inp y_outp g _ _ _ _ _ _ _ _ _ _ _ _ _ _ _ _ _ _ _ _ _ _ _ _ _ _ _ ?_ C ca_DRr ?_ ?_
  · exact ⟨wA, ab_Wand _, wS, wM, by rw [hF]; exact fg_znF, hI, hO⟩
  · exact Or.inl ⟨rfl, rfl, rfl, by omega⟩
  · intro pY h
    refine yt_none hw (O := 5) (by rw [ho]; rfl) (sp_zm (by omega)) (fun P hP => ya_5 hP) ?_
    refine y5_5 ?_
    exact h
theorem sc_6 (hz32 : 32 ≤ sz) (hz : sz ≤ 256) (hr : r < 8) (hi : idx < 128) (hpa : pa < sz) (hw : wn < 65536) (G : sp_G f_regA f_regX f_regS y_fl f_flagBits f_znPending f_znResult f_cvKind f_cvLeft f_cvRight f_cvWide f_inHead f_inSize f_outHead f_outSize a_mem a_inQueue a_outQueue y_inp y_outp) (C : ca_CI sz g a_mem a_marks a_blockStart a_blockCount a_links a_entry a_cover a_opKind a_opMode a_opArg) (ho : wn / 256 = 6) (hK : a_opKind idx = 6) (hM : a_opMode idx = 0) (hA : a_opArg idx = nI (wn % 256)) (KD : sp_KD post sz r idx pa wn g y_ex y_fl y_scr y_vc y_inp y_outp f_size f_executedCount f_regA f_regX f_regS f_pc f_flagBits f_znPending f_znResult f_cvKind f_cvLeft f_cvRight f_cvWide f_inHead f_inSize f_outHead f_outSize f_lastCode f_lastDetail f_cacheLimit f_lengthLimit f_hand f_running f_linkFrom f_exitKind f_controlDone f_trapCode f_trapDetail a_mem a_marks a_visitCount a_inQueue a_outQueue a_blockStart a_blockCount a_blockRecent a_links a_entry a_cover a_opKind a_opMode a_opArg) : wpX_step post (nI sz, f_executedCount, f_regA, f_regX, f_regS, f_pc, f_flagBits, f_znPending, f_znResult, f_cvKind, f_cvLeft, f_cvRight, f_cvWide, f_inHead, f_inSize, f_outHead, f_outSize, f_lastCode, f_lastDetail, f_cacheLimit, f_lengthLimit, f_hand, nI r, -1, 0, 0, 0, 0, a_mem, a_marks, a_visitCount, a_inQueue, a_outQueue, a_blockStart, a_blockCount, a_blockRecent, a_links, a_entry, a_cover, a_opKind, a_opMode, a_opArg) (nI idx) (nI pa) := by
  have G' := G
  obtain ⟨wA, wX, wS, wM, hF, hI, hO⟩ := G'
  refine xk_6 hi hK hM hA (nI_lt (a := 0) (by omega) (by omega)) ?_
  refine KD (fg_zn y_fl ((f_regX - 1) &&& 65535)) (nI (pa + 1)) y_inp y_outp g _ _ _ _ _ _ _ _ _ _ _ _ _ _ _ _ _ _ _ _ _ _ _ _ _ _ _ ?_ C ca_DRr ?_ ?_
  · exact ⟨wA, ab_Wand _, wS, wM, by rw [hF]; exact fg_znF, hI, hO⟩
  · exact Or.inl ⟨rfl, rfl, rfl, by omega⟩
  · intro pY h
    refine yt_none hw (O := 6) (by rw [ho]; rfl) (sp_zm (by omega)) (fun P hP => ya_6 hP) ?_
    refine y5_6 ?_
    exact h
theorem sc_7 (hz32 : 32 ≤ sz) (hz : sz ≤ 256) (hr : r < 8) (hi : idx < 128) (hpa : pa < sz) (hw : wn < 65536) (G : sp_G f_regA f_regX f_regS y_fl f_flagBits f_znPending f_znResult f_cvKind f_cvLeft f_cvRight f_cvWide f_inHead f_inSize f_outHead f_outSize a_mem a_inQueue a_outQueue y_inp y_outp) (C : ca_CI sz g a_mem a_marks a_blockStart a_blockCount a_links a_entry a_cover a_opKind a_opMode a_opArg) (ho : wn / 256 = 7) (hK : a_opKind idx = 7) (hM : a_opMode idx = 0) (hA : a_opArg idx = nI (wn % 256)) (KD : sp_KD post sz r idx pa wn g y_ex y_fl y_scr y_vc y_inp y_outp f_size f_executedCount f_regA f_regX f_regS f_pc f_flagBits f_znPending f_znResult f_cvKind f_cvLeft f_cvRight f_cvWide f_inHead f_inSize f_outHead f_outSize f_lastCode f_lastDetail f_cacheLimit f_lengthLimit f_hand f_running f_linkFrom f_exitKind f_controlDone f_trapCode f_trapDetail a_mem a_marks a_visitCount a_inQueue a_outQueue a_blockStart a_blockCount a_blockRecent a_links a_entry a_cover a_opKind a_opMode a_opArg) : wpX_step post (nI sz, f_executedCount, f_regA, f_regX, f_regS, f_pc, f_flagBits, f_znPending, f_znResult, f_cvKind, f_cvLeft, f_cvRight, f_cvWide, f_inHead, f_inSize, f_outHead, f_outSize, f_lastCode, f_lastDetail, f_cacheLimit, f_lengthLimit, f_hand, nI r, -1, 0, 0, 0, 0, a_mem, a_marks, a_visitCount, a_inQueue, a_outQueue, a_blockStart, a_blockCount, a_blockRecent, a_links, a_entry, a_cover, a_opKind, a_opMode, a_opArg) (nI idx) (nI pa) := by
  have G' := G
  obtain ⟨wA, wX, wS, wM, hF, hI, hO⟩ := G'
  refine xk_7 hi hK hM hA (nI_lt (a := 0) (by omega) (by omega)) ?_
  refine KD (fg_zn (fg_sf y_fl 4 (if f_regA &&& 32768 = 0 then 0 else 1)) ((f_regA <<< ((1 : Int32) &&& 31)) &&& 65535)) (nI (pa + 1)) y_inp y_outp g _ _ _ _ _ _ _ _ _ _ _ _ _ _ _ _ _ _ _ _ _ _ _ _ _ _ _ ?_ C ca_DRr ?_ ?_
  · exact ⟨ab_Wand _, wX, wS, wM, by rw [hF, ← fg_15]; exact fg_car (fg_and1 _), hI, hO⟩
  · exact Or.inl ⟨rfl, rfl, rfl, by omega⟩
  · intro pY h
    refine yt_none hw (O := 7) (by rw [ho]; rfl) (sp_zm (by omega)) (fun P hP => ya_7 hP) ?_
    refine y5_7 ?_
    exact h
theorem sc_8 (hz32 : 32 ≤ sz) (hz : sz ≤ 256) (hr : r < 8) (hi : idx < 128) (hpa : pa < sz) (hw : wn < 65536) (G : sp_G f_regA f_regX f_regS y_fl f_flagBits f_znPending f_znResult f_cvKind f_cvLeft f_cvRight f_cvWide f_inHead f_inSize f_outHead f_outSize a_mem a_inQueue a_outQueue y_inp y_outp) (C : ca_CI sz g a_mem a_marks a_blockStart a_blockCount a_links a_entry a_cover a_opKind a_opMode a_opArg) (ho : wn / 256 = 8) (hK : a_opKind idx = 8) (hM : a_opMode idx = 0) (hA : a_opArg idx = nI (wn % 256)) (KD : sp_KD post sz r idx pa wn g y_ex y_fl y_scr y_vc y_inp y_outp f_size f_executedCount f_regA f_regX f_regS f_pc f_flagBits f_znPending f_znResult f_cvKind f_cvLeft f_cvRight f_cvWide f_inHead f_inSize f_outHead f_outSize f_lastCode f_lastDetail f_cacheLimit f_lengthLimit f_hand f_running f_linkFrom f_exitKind f_controlDone f_trapCode f_trapDetail a_mem a_marks a_visitCount a_inQueue a_outQueue a_blockStart a_blockCount a_blockRecent a_links a_entry a_cover a_opKind a_opMode a_opArg) : wpX_step post (nI sz, f_executedCount, f_regA, f_regX, f_regS, f_pc, f_flagBits, f_znPending, f_znResult, f_cvKind, f_cvLeft, f_cvRight, f_cvWide, f_inHead, f_inSize, f_outHead, f_outSize, f_lastCode, f_lastDetail, f_cacheLimit, f_lengthLimit, f_hand, nI r, -1, 0, 0, 0, 0, a_mem, a_marks, a_visitCount, a_inQueue, a_outQueue, a_blockStart, a_blockCount, a_blockRecent, a_links, a_entry, a_cover, a_opKind, a_opMode, a_opArg) (nI idx) (nI pa) := by
  have G' := G
  obtain ⟨wA, wX, wS, wM, hF, hI, hO⟩ := G'
  refine xk_8 hi hK hM hA (nI_lt (a := 0) (by omega) (by omega)) ?_
  refine KD (fg_zn (fg_sf y_fl 4 (if f_regA &&& 1 = 0 then 0 else 1)) (f_regA >>> ((1 : Int32) &&& 31))) (nI (pa + 1)) y_inp y_outp g _ _ _ _ _ _ _ _ _ _ _ _ _ _ _ _ _ _ _ _ _ _ _ _ _ _ _ ?_ C ca_DRr ?_ ?_
  · exact ⟨sp_lsr wA, wX, wS, wM, by rw [hF, sp_and1]; exact fg_car (fg_and1 _), hI, hO⟩
  · exact Or.inl ⟨rfl, rfl, rfl, by omega⟩
  · intro pY h
    refine yt_none hw (O := 8) (by rw [ho]; rfl) (sp_zm (by omega)) (fun P hP => ya_8 hP) ?_
    refine y5_8 ?_
    exact h
theorem sc_9 (hz32 : 32 ≤ sz) (hz : sz ≤ 256) (hr : r < 8) (hi : idx < 128) (hpa : pa < sz) (hw : wn < 65536) (G : sp_G f_regA f_regX f_regS y_fl f_flagBits f_znPending f_znResult f_cvKind f_cvLeft f_cvRight f_cvWide f_inHead f_inSize f_outHead f_outSize a_mem a_inQueue a_outQueue y_inp y_outp) (C : ca_CI sz g a_mem a_marks a_blockStart a_blockCount a_links a_entry a_cover a_opKind a_opMode a_opArg) (ho : wn / 256 = 9) (hK : a_opKind idx = 9) (hM : a_opMode idx = 0) (hA : a_opArg idx = nI (wn % 256)) (KD : sp_KD post sz r idx pa wn g y_ex y_fl y_scr y_vc y_inp y_outp f_size f_executedCount f_regA f_regX f_regS f_pc f_flagBits f_znPending f_znResult f_cvKind f_cvLeft f_cvRight f_cvWide f_inHead f_inSize f_outHead f_outSize f_lastCode f_lastDetail f_cacheLimit f_lengthLimit f_hand f_running f_linkFrom f_exitKind f_controlDone f_trapCode f_trapDetail a_mem a_marks a_visitCount a_inQueue a_outQueue a_blockStart a_blockCount a_blockRecent a_links a_entry a_cover a_opKind a_opMode a_opArg) (KT : sp_KT post sz r pa wn y_ex y_fl y_scr y_vc y_inp y_outp f_size f_executedCount f_regA f_regX f_regS f_pc f_flagBits f_znPending f_znResult f_cvKind f_cvLeft f_cvRight f_cvWide f_inHead f_inSize f_outHead f_outSize f_lastCode f_lastDetail f_cacheLimit f_lengthLimit f_hand f_running f_linkFrom f_exitKind f_controlDone f_trapCode f_trapDetail a_mem a_marks a_visitCount a_inQueue a_outQueue a_blockStart a_blockCount a_blockRecent a_links a_entry a_cover a_opKind a_opMode a_opArg) : wpX_step post (nI sz, f_executedCount, f_regA, f_regX, f_regS, f_pc, f_flagBits, f_znPending, f_znResult, f_cvKind, f_cvLeft, f_cvRight, f_cvWide, f_inHead, f_inSize, f_outHead, f_outSize, f_lastCode, f_lastDetail, f_cacheLimit, f_lengthLimit, f_hand, nI r, -1, 0, 0, 0, 0, a_mem, a_marks, a_visitCount, a_inQueue, a_outQueue, a_blockStart, a_blockCount, a_blockRecent, a_links, a_entry, a_cover, a_opKind, a_opMode, a_opArg) (nI idx) (nI pa) := by
  obtain ⟨wA, wX, wS, wM, hF, hI, hO⟩ := G
  obtain ⟨hd, n, e1, e2, hh, hn, hy, hW⟩ := hI
  subst e1 e2
  by_cases h0 : n = 0
  · subst h0
    refine xk_9T hi hK hM hA (nI_lt (a := 0) (by omega) (by omega)) rfl ?_
    refine KT 5 0 (by decide) ?_
    intro pY h
    refine yt_none hw (O := 9) (by rw [ho]; rfl) (sp_zm (by omega)) (fun P hP => ya_9 hP) ?_
    refine y5_9T rfl ?_
    exact h
  · refine xk_9 hi hK hM hA (nI_lt (a := 0) (by omega) (by omega)) hh (by omega) hn ?_
    have e0 : y_inp 0 = a_inQueue hd := by
      rw [hy 0 (by omega)]
      exact congrArg a_inQueue (by omega)
    refine KD (fg_zn y_fl (a_inQueue hd)) (nI (pa + 1)) (fun j => if j < 15 then y_inp (j + 1) else y_inp j) y_outp g _ _ _ _ _ _ _ _ _ _ _ _ _ _ _ _ _ _ _ _ _ _ _ _ _ _ _ ?_ C ca_DRr ?_ ?_
    · exact ⟨hW hd, wX, wS, wM, by rw [hF]; exact fg_znF, qu_pop hh (by omega) hn hy hW (fun j hj => if_pos hj), hO⟩
    · exact Or.inl ⟨rfl, rfl, rfl, by omega⟩
    · intro pY h
      refine yt_none hw (O := 9) (by rw [ho]; rfl) (sp_zm (by omega)) (fun P hP => ya_9 hP) ?_
      refine y5_9 (by omega) hn ?_
      rw [e0]
      exact h
theorem sc_10 (hz32 : 32 ≤ sz) (hz : sz ≤ 256) (hr : r < 8) (hi : idx < 128) (hpa : pa < sz) (hw : wn < 65536) (G : sp_G f_regA f_regX f_regS y_fl f_flagBits f_znPending f_znResult f_cvKind f_cvLeft f_cvRight f_cvWide f_inHead f_inSize f_outHead f_outSize a_mem a_inQueue a_outQueue y_inp y_outp) (C : ca_CI sz g a_mem a_marks a_blockStart a_blockCount a_links a_entry a_cover a_opKind a_opMode a_opArg) (ho : wn / 256 = 10) (hK : a_opKind idx = 10) (hM : a_opMode idx = 0) (hA : a_opArg idx = nI (wn % 256)) (KD : sp_KD post sz r idx pa wn g y_ex y_fl y_scr y_vc y_inp y_outp f_size f_executedCount f_regA f_regX f_regS f_pc f_flagBits f_znPending f_znResult f_cvKind f_cvLeft f_cvRight f_cvWide f_inHead f_inSize f_outHead f_outSize f_lastCode f_lastDetail f_cacheLimit f_lengthLimit f_hand f_running f_linkFrom f_exitKind f_controlDone f_trapCode f_trapDetail a_mem a_marks a_visitCount a_inQueue a_outQueue a_blockStart a_blockCount a_blockRecent a_links a_entry a_cover a_opKind a_opMode a_opArg) (KT : sp_KT post sz r pa wn y_ex y_fl y_scr y_vc y_inp y_outp f_size f_executedCount f_regA f_regX f_regS f_pc f_flagBits f_znPending f_znResult f_cvKind f_cvLeft f_cvRight f_cvWide f_inHead f_inSize f_outHead f_outSize f_lastCode f_lastDetail f_cacheLimit f_lengthLimit f_hand f_running f_linkFrom f_exitKind f_controlDone f_trapCode f_trapDetail a_mem a_marks a_visitCount a_inQueue a_outQueue a_blockStart a_blockCount a_blockRecent a_links a_entry a_cover a_opKind a_opMode a_opArg) : wpX_step post (nI sz, f_executedCount, f_regA, f_regX, f_regS, f_pc, f_flagBits, f_znPending, f_znResult, f_cvKind, f_cvLeft, f_cvRight, f_cvWide, f_inHead, f_inSize, f_outHead, f_outSize, f_lastCode, f_lastDetail, f_cacheLimit, f_lengthLimit, f_hand, nI r, -1, 0, 0, 0, 0, a_mem, a_marks, a_visitCount, a_inQueue, a_outQueue, a_blockStart, a_blockCount, a_blockRecent, a_links, a_entry, a_cover, a_opKind, a_opMode, a_opArg) (nI idx) (nI pa) := by
  obtain ⟨wA, wX, wS, wM, hF, hI, hO⟩ := G
  obtain ⟨hd, n, e1, e2, hh, hn, hy, hW⟩ := hO
  subst e1 e2
  by_cases h0 : n < 16
  · refine xk_10 hi hK hM hA (nI_lt (a := 0) (by omega) (by omega)) hh h0 ?_
    refine KD y_fl (nI (pa + 1)) y_inp (upd y_outp n f_regA) g _ _ _ _ _ _ _ _ _ _ _ _ _ _ _ _ _ _ _ _ _ _ _ _ _ _ _ ?_ C ca_DRr ?_ ?_
    · exact ⟨wA, wX, wS, wM, hF, hI, qu_push hh h0 hy hW wA⟩
    · exact Or.inl ⟨rfl, rfl, rfl, by omega⟩
    · intro pY h
      refine yt_none hw (O := 10) (by rw [ho]; rfl) (sp_zm (by omega)) (fun P hP => ya_10 hP) ?_
      refine y5_10 h0 ?_
      exact h
  · have hc : ¬ nI n < 16 := nI_nlt (b := 16) (by omega) (by omega)
    refine xk_10T hi hK hM hA (nI_lt (a := 0) (by omega) (by omega)) hc ?_
    refine KT 6 0 (by decide) ?_
    intro pY h
    refine yt_none hw (O := 10) (by rw [ho]; rfl) (sp_zm (by omega)) (fun P hP => ya_10 hP) ?_
    refine y5_10T hc ?_
    exact h
end SP
end
section
/-! the step, in lockstep (printed by gen12.py) -/
section SP
variable {f_size f_executedCount f_regA f_regX f_regS f_pc f_flagBits f_znPending f_znResult f_cvKind f_cvLeft f_cvRight f_cvWide f_inHead f_inSize f_outHead f_outSize f_lastCode f_lastDetail f_cacheLimit f_lengthLimit f_hand f_running f_linkFrom f_exitKind f_controlDone f_trapCode f_trapDetail : Int32} {a_mem a_marks a_visitCount a_inQueue a_outQueue a_blockStart a_blockCount a_blockRecent a_links a_entry a_cover a_opKind a_opMode a_opArg : Nat → Int32}
variable {y_fl : Int32} {y_scr y_inp y_outp : Nat → Int32}
variable {y_ex : Int32} {y_vc : Nat → Int32} {post : Int32 → SX → Prop} {sz r idx pa wn : Nat} {g : Nat → Option (Nat × Nat)}
theorem sc_16 (hz32 : 32 ≤ sz) (hz : sz ≤ 256) (hr : r < 8) (hi : idx < 128) (hpa : pa < sz) (hw : wn < 65536) (G : sp_G f_regA f_regX f_regS y_fl f_flagBits f_znPending f_znResult f_cvKind f_cvLeft f_cvRight f_cvWide f_inHead f_inSize f_outHead f_outSize a_mem a_inQueue a_outQueue y_inp y_outp) (C : ca_CI sz g a_mem a_marks a_blockStart a_blockCount a_links a_entry a_cover a_opKind a_opMode a_opArg) (ho : wn / 256 = 16) (hK : a_opKind idx = 16) (hM : a_opMode idx = 0) (hA : a_opArg idx = nI (wn % 256)) (KD : sp_KD post sz r idx pa wn g y_ex y_fl y_scr y_vc y_inp y_outp f_size f_executedCount f_regA f_regX f_regS f_pc f_flagBits f_znPending f_znResult f_cvKind f_cvLeft f_cvRight f_cvWide f_inHead f_inSize f_outHead f_outSize f_lastCode f_lastDetail f_cacheLimit f_lengthLimit f_hand f_running f_linkFrom f_exitKind f_controlDone f_trapCode f_trapDetail a_mem a_marks a_visitCount a_inQueue a_outQueue a_blockStart a_blockCount a_blockRecent a_links a_entry a_cover a_opKind a_opMode a_opArg) : wpX_step post (nI sz, f_executedCount, f_regA, f_regX, f_regS, f_pc, f_flagBits, f_znPending, f_znResult, f_cvKind, f_cvLeft, f_cvRight, f_cvWide, f_inHead, f_inSize, f_outHead, f_outSize, f_lastCode, f_lastDetail, f_cacheLimit, f_lengthLimit, f_hand, nI r, -1, 0, 0, 0, 0, a_mem, a_marks, a_visitCount, a_inQueue, a_outQueue, a_blockStart, a_blockCount, a_blockRecent, a_links, a_entry, a_cover, a_opKind, a_opMode, a_opArg) (nI idx) (nI pa) := by
  refine xk_16 hi hK hM hA (nI_lt (a := 0) (by omega) (by omega)) ?_
  refine KD y_fl (nI (wn % 256)) y_inp y_outp g _ _ _ _ _ _ _ _ _ _ _ _ _ _ _ _ _ _ _ _ _ _ _ _ _ _ _ G C ca_DRr ?_ ?_
  · exact Or.inr ⟨rfl, rfl, ab_Wn (by omega), by omega, Or.inr (Or.inr ⟨rfl, hA.symm⟩)⟩
  · intro pY h
    refine yt_none hw (O := 16) (by rw [ho]; rfl) (sp_zm (by omega)) (fun P hP => ya_16 hP) ?_
    refine y5_16 ?_
    exact h
theorem sc_17 (hz32 : 32 ≤ sz) (hz : sz ≤ 256) (hr : r < 8) (hi : idx < 128) (hpa : pa < sz) (hw : wn < 65536) (G : sp_G f_regA f_regX f_regS y_fl f_flagBits f_znPending f_znResult f_cvKind f_cvLeft f_cvRight f_cvWide f_inHead f_inSize f_outHead f_outSize a_mem a_inQueue a_outQueue y_inp y_outp) (C : ca_CI sz g a_mem a_marks a_blockStart a_blockCount a_links a_entry a_cover a_opKind a_opMode a_opArg) (ho : wn / 256 = 17) (hK : a_opKind idx = 17) (hM : a_opMode idx = 0) (hA : a_opArg idx = nI (wn % 256)) (KD : sp_KD post sz r idx pa wn g y_ex y_fl y_scr y_vc y_inp y_outp f_size f_executedCount f_regA f_regX f_regS f_pc f_flagBits f_znPending f_znResult f_cvKind f_cvLeft f_cvRight f_cvWide f_inHead f_inSize f_outHead f_outSize f_lastCode f_lastDetail f_cacheLimit f_lengthLimit f_hand f_running f_linkFrom f_exitKind f_controlDone f_trapCode f_trapDetail a_mem a_marks a_visitCount a_inQueue a_outQueue a_blockStart a_blockCount a_blockRecent a_links a_entry a_cover a_opKind a_opMode a_opArg) : wpX_step post (nI sz, f_executedCount, f_regA, f_regX, f_regS, f_pc, f_flagBits, f_znPending, f_znResult, f_cvKind, f_cvLeft, f_cvRight, f_cvWide, f_inHead, f_inSize, f_outHead, f_outSize, f_lastCode, f_lastDetail, f_cacheLimit, f_lengthLimit, f_hand, nI r, -1, 0, 0, 0, 0, a_mem, a_marks, a_visitCount, a_inQueue, a_outQueue, a_blockStart, a_blockCount, a_blockRecent, a_links, a_entry, a_cover, a_opKind, a_opMode, a_opArg) (nI idx) (nI pa) := by
  refine xk_17 hi hK hM hA (nI_lt (a := 0) (by omega) (by omega)) ?_
  refine KD y_fl ((nI (wn % 256) + f_regX) &&& 65535) y_inp y_outp g _ _ _ _ _ _ _ _ _ _ _ _ _ _ _ _ _ _ _ _ _ _ _ _ _ _ _ G C ca_DRr ?_ ?_
  · exact Or.inr ⟨rfl, rfl, ab_Wand _, by omega, Or.inl rfl⟩
  · intro pY h
    refine yt_none hw (O := 17) (by rw [ho]; rfl) (sp_zm (by omega)) (fun P hP => ya_17 hP) ?_
    refine y5_17 ?_
    exact h
theorem sc_20 (hz32 : 32 ≤ sz) (hz : sz ≤ 256) (hr : r < 8) (hi : idx < 128) (hpa : pa < sz) (hw : wn < 65536) (G : sp_G f_regA f_regX f_regS y_fl f_flagBits f_znPending f_znResult f_cvKind f_cvLeft f_cvRight f_cvWide f_inHead f_inSize f_outHead f_outSize a_mem a_inQueue a_outQueue y_inp y_outp) (C : ca_CI sz g a_mem a_marks a_blockStart a_blockCount a_links a_entry a_cover a_opKind a_opMode a_opArg) (ho : wn / 256 = 20) (hK : a_opKind idx = 20) (hM : a_opMode idx = 0) (hA : a_opArg idx = nI (wn % 256)) (KD : sp_KD post sz r idx pa wn g y_ex y_fl y_scr y_vc y_inp y_outp f_size f_executedCount f_regA f_regX f_regS f_pc f_flagBits f_znPending f_znResult f_cvKind f_cvLeft f_cvRight f_cvWide f_inHead f_inSize f_outHead f_outSize f_lastCode f_lastDetail f_cacheLimit f_lengthLimit f_hand f_running f_linkFrom f_exitKind f_controlDone f_trapCode f_trapDetail a_mem a_marks a_visitCount a_inQueue a_outQueue a_blockStart a_blockCount a_blockRecent a_links a_entry a_cover a_opKind a_opMode a_opArg) : wpX_step post (nI sz, f_executedCount, f_regA, f_regX, f_regS, f_pc, f_flagBits, f_znPending, f_znResult, f_cvKind, f_cvLeft, f_cvRight, f_cvWide, f_inHead, f_inSize, f_outHead, f_outSize, f_lastCode, f_lastDetail, f_cacheLimit, f_lengthLimit, f_hand, nI r, -1, 0, 0, 0, 0, a_mem, a_marks, a_visitCount, a_inQueue, a_outQueue, a_blockStart, a_blockCount, a_blockRecent, a_links, a_entry, a_cover, a_opKind, a_opMode, a_opArg) (nI idx) (nI pa) := by
  have G' := G
  obtain ⟨wA, wX, wS, wM, hF, hI, hO⟩ := G'
  refine xk_cond hi hK hM hA (nI_lt (a := 0) (by omega) (by omega)) (by decide) (by decide) (by decide) (by decide) (by decide) (fun P hP => xs_cd20 hP) (fun e => ?_) (fun e => ?_)
  · rw [nI_1]
    refine KD y_fl (nI (pa + 1)) y_inp y_outp g _ _ _ _ _ _ _ _ _ _ _ _ _ _ _ _ _ _ _ _ _ _ _ _ _ _ _ G C ca_DRr ?_ ?_
    · exact Or.inr ⟨rfl, rfl, ab_Wn (by omega), by omega, Or.inr (Or.inl ⟨rfl, rfl⟩)⟩
    · intro pY h
      refine yt_none hw (O := 20) (by rw [ho]; rfl) (sp_zm (by omega)) (fun P hP => ya_20 hP) ?_
      refine y5_20 (fun P hP => ys_cd20 (fg_zbB _ _ _) (fg_nbB _ _ _) (fg_cbB _ _ _) (fg_vbB _ _ _ _ _) hF hP) (fun _ => ?_) (fun q => absurd e q)
      exact h
  · refine KD y_fl (nI (wn % 256)) y_inp y_outp g _ _ _ _ _ _ _ _ _ _ _ _ _ _ _ _ _ _ _ _ _ _ _ _ _ _ _ G C ca_DRr ?_ ?_
    · exact Or.inr ⟨rfl, rfl, ab_Wn (by omega), by omega, Or.inr (Or.inr ⟨rfl, hA.symm⟩)⟩
    · intro pY h
      refine yt_none hw (O := 20) (by rw [ho]; rfl) (sp_zm (by omega)) (fun P hP => ya_20 hP) ?_
      refine y5_20 (fun P hP => ys_cd20 (fg_zbB _ _ _) (fg_nbB _ _ _) (fg_cbB _ _ _) (fg_vbB _ _ _ _ _) hF hP) (fun q => absurd q e) (fun _ => ?_)
      exact h
theorem sc_21 (hz32 : 32 ≤ sz) (hz : sz ≤ 256) (hr : r < 8) (hi : idx < 128) (hpa : pa < sz) (hw : wn < 65536) (G : sp_G f_regA f_regX f_regS y_fl f_flagBits f_znPending f_znResult f_cvKind f_cvLeft f_cvRight f_cvWide f_inHead f_inSize f_outHead f_outSize a_mem a_inQueue a_outQueue y_inp y_outp) (C : ca_CI sz g a_mem a_marks a_blockStart a_blockCount a_links a_entry a_cover a_opKind a_opMode a_opArg) (ho : wn / 256 = 21) (hK : a_opKind idx = 21) (hM : a_opMode idx = 0) (hA : a_opArg idx = nI (wn % 256)) (KD : sp_KD post sz r idx pa wn g y_ex y_fl y_scr y_vc y_inp y_outp f_size f_executedCount f_regA f_regX f_regS f_pc f_flagBits f_znPending f_znResult f_cvKind f_cvLeft f_cvRight f_cvWide f_inHead f_inSize f_outHead f_outSize f_lastCode f_lastDetail f_cacheLimit f_lengthLimit f_hand f_running f_linkFrom f_exitKind f_controlDone f_trapCode f_trapDetail a_mem a_marks a_visitCount a_inQueue a_outQueue a_blockStart a_blockCount a_blockRecent a_links a_entry a_cover a_opKind a_opMode a_opArg) : wpX_step post (nI sz, f_executedCount, f_regA, f_regX, f_regS, f_pc, f_flagBits, f_znPending, f_znResult, f_cvKind, f_cvLeft, f_cvRight, f_cvWide, f_inHead, f_inSize, f_outHead, f_outSize, f_lastCode, f_lastDetail, f_cacheLimit, f_lengthLimit, f_hand, nI r, -1, 0, 0, 0, 0, a_mem, a_marks, a_visitCount, a_inQueue, a_outQueue, a_blockStart, a_blockCount, a_blockRecent, a_links, a_entry, a_cover, a_opKind, a_opMode, a_opArg) (nI idx) (nI pa) := by
  have G' := G
  obtain ⟨wA, wX, wS, wM, hF, hI, hO⟩ := G'
  refine xk_cond hi hK hM hA (nI_lt (a := 0) (by omega) (by omega)) (by decide) (by decide) (by decide) (by decide) (by decide) (fun P hP => xs_cd21 hP) (fun e => ?_) (fun e => ?_)
  · rw [nI_1]
    refine KD y_fl (nI (pa + 1)) y_inp y_outp g _ _ _ _ _ _ _ _ _ _ _ _ _ _ _ _ _ _ _ _ _ _ _ _ _ _ _ G C ca_DRr ?_ ?_
    · exact Or.inr ⟨rfl, rfl, ab_Wn (by omega), by omega, Or.inr (Or.inl ⟨rfl, rfl⟩)⟩
    · intro pY h
      refine yt_none hw (O := 21) (by rw [ho]; rfl) (sp_zm (by omega)) (fun P hP => ya_21 hP) ?_
      refine y5_21 (fun P hP => ys_cd21 (fg_zbB _ _ _) (fg_nbB _ _ _) (fg_cbB _ _ _) (fg_vbB _ _ _ _ _) hF hP) (fun _ => ?_) (fun q => absurd e q)
      exact h
  · refine KD y_fl (nI (wn % 256)) y_inp y_outp g _ _ _ _ _ _ _ _ _ _ _ _ _ _ _ _ _ _ _ _ _ _ _ _ _ _ _ G C ca_DRr ?_ ?_
    · exact Or.inr ⟨rfl, rfl, ab_Wn (by omega), by omega, Or.inr (Or.inr ⟨rfl, hA.symm⟩)⟩
    · intro pY h
      refine yt_none hw (O := 21) (by rw [ho]; rfl) (sp_zm (by omega)) (fun P hP => ya_21 hP) ?_
      refine y5_21 (fun P hP => ys_cd21 (fg_zbB _ _ _) (fg_nbB _ _ _) (fg_cbB _ _ _) (fg_vbB _ _ _ _ _) hF hP) (fun q => absurd q e) (fun _ => ?_)
      exact h
theorem sc_22 (hz32 : 32 ≤ sz) (hz : sz ≤ 256) (hr : r < 8) (hi : idx < 128) (hpa : pa < sz) (hw : wn < 65536) (G : sp_G f_regA f_regX f_regS y_fl f_flagBits f_znPending f_znResult f_cvKind f_cvLeft f_cvRight f_cvWide f_inHead f_inSize f_outHead f_outSize a_mem a_inQueue a_outQueue y_inp y_outp) (C : ca_CI sz g a_mem a_marks a_blockStart a_blockCount a_links a_entry a_cover a_opKind a_opMode a_opArg) (ho : wn / 256 = 22) (hK : a_opKind idx = 22) (hM : a_opMode idx = 0) (hA : a_opArg idx = nI (wn % 256)) (KD : sp_KD post sz r idx pa wn g y_ex y_fl y_scr y_vc y_inp y_outp f_size f_executedCount f_regA f_regX f_regS f_pc f_flagBits f_znPending f_znResult f_cvKind f_cvLeft f_cvRight f_cvWide f_inHead f_inSize f_outHead f_outSize f_lastCode f_lastDetail f_cacheLimit f_lengthLimit f_hand f_running f_linkFrom f_exitKind f_controlDone f_trapCode f_trapDetail a_mem a_marks a_visitCount a_inQueue a_outQueue a_blockStart a_blockCount a_blockRecent a_links a_entry a_cover a_opKind a_opMode a_opArg) : wpX_step post (nI sz, f_executedCount, f_regA, f_regX, f_regS, f_pc, f_flagBits, f_znPending, f_znResult, f_cvKind, f_cvLeft, f_cvRight, f_cvWide, f_inHead, f_inSize, f_outHead, f_outSize, f_lastCode, f_lastDetail, f_cacheLimit, f_lengthLimit, f_hand, nI r, -1, 0, 0, 0, 0, a_mem, a_marks, a_visitCount, a_inQueue, a_outQueue, a_blockStart, a_blockCount, a_blockRecent, a_links, a_entry, a_cover, a_opKind, a_opMode, a_opArg) (nI idx) (nI pa) := by
  have G' := G
  obtain ⟨wA, wX, wS, wM, hF, hI, hO⟩ := G'
  refine xk_cond hi hK hM hA (nI_lt (a := 0) (by omega) (by omega)) (by decide) (by decide) (by decide) (by decide) (by decide) (fun P hP => xs_cd22 hP) (fun e => ?_) (fun e => ?_)
  · rw [nI_1]
    refine KD y_fl (nI (pa + 1)) y_inp y_outp g _ _ _ _ _ _ _ _ _ _ _ _ _ _ _ _ _ _ _ _ _ _ _ _ _ _ _ G C ca_DRr ?_ ?_
    · exact Or.inr ⟨rfl, rfl, ab_Wn (by omega), by omega, Or.inr (Or.inl ⟨rfl, rfl⟩)⟩
    · intro pY h
      refine yt_none hw (O := 22) (by rw [ho]; rfl) (sp_zm (by omega)) (fun P hP => ya_22 hP) ?_
      refine y5_22 (fun P hP => ys_cd22 (fg_zbB _ _ _) (fg_nbB _ _ _) (fg_cbB _ _ _) (fg_vbB _ _ _ _ _) hF hP) (fun _ => ?_) (fun q => absurd e q)
      exact h
  · refine KD y_fl (nI (wn % 256)) y_inp y_outp g _ _ _ _ _ _ _ _ _ _ _ _ _ _ _ _ _ _ _ _ _ _ _ _ _ _ _ G C ca_DRr ?_ ?_
    · exact Or.inr ⟨rfl, rfl, ab_Wn (by omega), by omega, Or.inr (Or.inr ⟨rfl, hA.symm⟩)⟩
    · intro pY h
      refine yt_none hw (O := 22) (by rw [ho]; rfl) (sp_zm (by omega)) (fun P hP => ya_22 hP) ?_
      refine y5_22 (fun P hP => ys_cd22 (fg_zbB _ _ _) (fg_nbB _ _ _) (fg_cbB _ _ _) (fg_vbB _ _ _ _ _) hF hP) (fun q => absurd q e) (fun _ => ?_)
      exact h
theorem sc_23 (hz32 : 32 ≤ sz) (hz : sz ≤ 256) (hr : r < 8) (hi : idx < 128) (hpa : pa < sz) (hw : wn < 65536) (G : sp_G f_regA f_regX f_regS y_fl f_flagBits f_znPending f_znResult f_cvKind f_cvLeft f_cvRight f_cvWide f_inHead f_inSize f_outHead f_outSize a_mem a_inQueue a_outQueue y_inp y_outp) (C : ca_CI sz g a_mem a_marks a_blockStart a_blockCount a_links a_entry a_cover a_opKind a_opMode a_opArg) (ho : wn / 256 = 23) (hK : a_opKind idx = 23) (hM : a_opMode idx = 0) (hA : a_opArg idx = nI (wn % 256)) (KD : sp_KD post sz r idx pa wn g y_ex y_fl y_scr y_vc y_inp y_outp f_size f_executedCount f_regA f_regX f_regS f_pc f_flagBits f_znPending f_znResult f_cvKind f_cvLeft f_cvRight f_cvWide f_inHead f_inSize f_outHead f_outSize f_lastCode f_lastDetail f_cacheLimit f_lengthLimit f_hand f_running f_linkFrom f_exitKind f_controlDone f_trapCode f_trapDetail a_mem a_marks a_visitCount a_inQueue a_outQueue a_blockStart a_blockCount a_blockRecent a_links a_entry a_cover a_opKind a_opMode a_opArg) : wpX_step post (nI sz, f_executedCount, f_regA, f_regX, f_regS, f_pc, f_flagBits, f_znPending, f_znResult, f_cvKind, f_cvLeft, f_cvRight, f_cvWide, f_inHead, f_inSize, f_outHead, f_outSize, f_lastCode, f_lastDetail, f_cacheLimit, f_lengthLimit, f_hand, nI r, -1, 0, 0, 0, 0, a_mem, a_marks, a_visitCount, a_inQueue, a_outQueue, a_blockStart, a_blockCount, a_blockRecent, a_links, a_entry, a_cover, a_opKind, a_opMode, a_opArg) (nI idx) (nI pa) := by
  have G' := G
  obtain ⟨wA, wX, wS, wM, hF, hI, hO⟩ := G'
  refine xk_cond hi hK hM hA (nI_lt (a := 0) (by omega) (by omega)) (by decide) (by decide) (by decide) (by decide) (by decide) (fun P hP => xs_cd23 hP) (fun e => ?_) (fun e => ?_)
  · rw [nI_1]
    refine KD y_fl (nI (pa + 1)) y_inp y_outp g _ _ _ _ _ _ _ _ _ _ _ _ _ _ _ _ _ _ _ _ _ _ _ _ _ _ _ G C ca_DRr ?_ ?_
    · exact Or.inr ⟨rfl, rfl, ab_Wn (by omega), by omega, Or.inr (Or.inl ⟨rfl, rfl⟩)⟩
    · intro pY h
      refine yt_none hw (O := 23) (by rw [ho]; rfl) (sp_zm (by omega)) (fun P hP => ya_23 hP) ?_
      refine y5_23 (fun P hP => ys_cd23 (fg_zbB _ _ _) (fg_nbB _ _ _) (fg_cbB _ _ _) (fg_vbB _ _ _ _ _) hF hP) (fun _ => ?_) (fun q => absurd e q)
      exact h
  · refine KD y_fl (nI (wn % 256)) y_inp y_outp g _ _ _ _ _ _ _ _ _ _ _ _ _ _ _ _ _ _ _ _ _ _ _ _ _ _ _ G C ca_DRr ?_ ?_
    · exact Or.inr ⟨rfl, rfl, ab_Wn (by omega), by omega, Or.inr (Or.inr ⟨rfl, hA.symm⟩)⟩
    · intro pY h
      refine yt_none hw (O := 23) (by rw [ho]; rfl) (sp_zm (by omega)) (fun P hP => ya_23 hP) ?_
      refine y5_23 (fun P hP => ys_cd23 (fg_zbB _ _ _) (fg_nbB _ _ _) (fg_cbB _ _ _) (fg_vbB _ _ _ _ _) hF hP) (fun q => absurd q e) (fun _ => ?_)
      exact h
theorem sc_24 (hz32 : 32 ≤ sz) (hz : sz ≤ 256) (hr : r < 8) (hi : idx < 128) (hpa : pa < sz) (hw : wn < 65536) (G : sp_G f_regA f_regX f_regS y_fl f_flagBits f_znPending f_znResult f_cvKind f_cvLeft f_cvRight f_cvWide f_inHead f_inSize f_outHead f_outSize a_mem a_inQueue a_outQueue y_inp y_outp) (C : ca_CI sz g a_mem a_marks a_blockStart a_blockCount a_links a_entry a_cover a_opKind a_opMode a_opArg) (ho : wn / 256 = 24) (hK : a_opKind idx = 24) (hM : a_opMode idx = 0) (hA : a_opArg idx = nI (wn % 256)) (KD : sp_KD post sz r idx pa wn g y_ex y_fl y_scr y_vc y_inp y_outp f_size f_executedCount f_regA f_regX f_regS f_pc f_flagBits f_znPending f_znResult f_cvKind f_cvLeft f_cvRight f_cvWide f_inHead f_inSize f_outHead f_outSize f_lastCode f_lastDetail f_cacheLimit f_lengthLimit f_hand f_running f_linkFrom f_exitKind f_controlDone f_trapCode f_trapDetail a_mem a_marks a_visitCount a_inQueue a_outQueue a_blockStart a_blockCount a_blockRecent a_links a_entry a_cover a_opKind a_opMode a_opArg) : wpX_step post (nI sz, f_executedCount, f_regA, f_regX, f_regS, f_pc, f_flagBits, f_znPending, f_znResult, f_cvKind, f_cvLeft, f_cvRight, f_cvWide, f_inHead, f_inSize, f_outHead, f_outSize, f_lastCode, f_lastDetail, f_cacheLimit, f_lengthLimit, f_hand, nI r, -1, 0, 0, 0, 0, a_mem, a_marks, a_visitCount, a_inQueue, a_outQueue, a_blockStart, a_blockCount, a_blockRecent, a_links, a_entry, a_cover, a_opKind, a_opMode, a_opArg) (nI idx) (nI pa) := by
  have G' := G
  obtain ⟨wA, wX, wS, wM, hF, hI, hO⟩ := G'
  refine xk_cond hi hK hM hA (nI_lt (a := 0) (by omega) (by omega)) (by decide) (by decide) (by decide) (by decide) (by decide) (fun P hP => xs_cd24 hP) (fun e => ?_) (fun e => ?_)
  · rw [nI_1]
    refine KD y_fl (nI (pa + 1)) y_inp y_outp g _ _ _ _ _ _ _ _ _ _ _ _ _ _ _ _ _ _ _ _ _ _ _ _ _ _ _ G C ca_DRr ?_ ?_
    · exact Or.inr ⟨rfl, rfl, ab_Wn (by omega), by omega, Or.inr (Or.inl ⟨rfl, rfl⟩)⟩
    · intro pY h
      refine yt_none hw (O := 24) (by rw [ho]; rfl) (sp_zm (by omega)) (fun P hP => ya_24 hP) ?_
      refine y5_24 (fun P hP => ys_cd24 (fg_zbB _ _ _) (fg_nbB _ _ _) (fg_cbB _ _ _) (fg_vbB _ _ _ _ _) hF hP) (fun _ => ?_) (fun q => absurd e q)
      exact h
  · refine KD y_fl (nI (wn % 256)) y_inp y_outp g _ _ _ _ _ _ _ _ _ _ _ _ _ _ _ _ _ _ _ _ _ _ _ _ _ _ _ G C ca_DRr ?_ ?_
    · exact Or.inr ⟨rfl, rfl, ab_Wn (by omega), by omega, Or.inr (Or.inr ⟨rfl, hA.symm⟩)⟩
    · intro pY h
      refine yt_none hw (O := 24) (by rw [ho]; rfl) (sp_zm (by omega)) (fun P hP => ya_24 hP) ?_
      refine y5_24 (fun P hP => ys_cd24 (fg_zbB _ _ _) (fg_nbB _ _ _) (fg_cbB _ _ _) (fg_vbB _ _ _ _ _) hF hP) (fun q => absurd q e) (fun _ => ?_)
      exact h
theorem sc_25 (hz32 : 32 ≤ sz) (hz : sz ≤ 256) (hr : r < 8) (hi : idx < 128) (hpa : pa < sz) (hw : wn < 65536) (G : sp_G f_regA f_regX f_regS y_fl f_flagBits f_znPending f_znResult f_cvKind f_cvLeft f_cvRight f_cvWide f_inHead f_inSize f_outHead f_outSize a_mem a_inQueue a_outQueue y_inp y_outp) (C : ca_CI sz g a_mem a_marks a_blockStart a_blockCount a_links a_entry a_cover a_opKind a_opMode a_opArg) (ho : wn / 256 = 25) (hK : a_opKind idx = 25) (hM : a_opMode idx = 0) (hA : a_opArg idx = nI (wn % 256)) (KD : sp_KD post sz r idx pa wn g y_ex y_fl y_scr y_vc y_inp y_outp f_size f_executedCount f_regA f_regX f_regS f_pc f_flagBits f_znPending f_znResult f_cvKind f_cvLeft f_cvRight f_cvWide f_inHead f_inSize f_outHead f_outSize f_lastCode f_lastDetail f_cacheLimit f_lengthLimit f_hand f_running f_linkFrom f_exitKind f_controlDone f_trapCode f_trapDetail a_mem a_marks a_visitCount a_inQueue a_outQueue a_blockStart a_blockCount a_blockRecent a_links a_entry a_cover a_opKind a_opMode a_opArg) : wpX_step post (nI sz, f_executedCount, f_regA, f_regX, f_regS, f_pc, f_flagBits, f_znPending, f_znResult, f_cvKind, f_cvLeft, f_cvRight, f_cvWide, f_inHead, f_inSize, f_outHead, f_outSize, f_lastCode, f_lastDetail, f_cacheLimit, f_lengthLimit, f_hand, nI r, -1, 0, 0, 0, 0, a_mem, a_marks, a_visitCount, a_inQueue, a_outQueue, a_blockStart, a_blockCount, a_blockRecent, a_links, a_entry, a_cover, a_opKind, a_opMode, a_opArg) (nI idx) (nI pa) := by
  have G' := G
  obtain ⟨wA, wX, wS, wM, hF, hI, hO⟩ := G'
  refine xk_cond hi hK hM hA (nI_lt (a := 0) (by omega) (by omega)) (by decide) (by decide) (by decide) (by decide) (by decide) (fun P hP => xs_cd25 hP) (fun e => ?_) (fun e => ?_)
  · rw [nI_1]
    refine KD y_fl (nI (pa + 1)) y_inp y_outp g _ _ _ _ _ _ _ _ _ _ _ _ _ _ _ _ _ _ _ _ _ _ _ _ _ _ _ G C ca_DRr ?_ ?_
    · exact Or.inr ⟨rfl, rfl, ab_Wn (by omega), by omega, Or.inr (Or.inl ⟨rfl, rfl⟩)⟩
    · intro pY h
      refine yt_none hw (O := 25) (by rw [ho]; rfl) (sp_zm (by omega)) (fun P hP => ya_25 hP) ?_
      refine y5_25 (fun P hP => ys_cd25 (fg_zbB _ _ _) (fg_nbB _ _ _) (fg_cbB _ _ _) (fg_vbB _ _ _ _ _) hF hP) (fun _ => ?_) (fun q => absurd e q)
      exact h
  · refine KD y_fl (nI (wn % 256)) y_inp y_outp g _ _ _ _ _ _ _ _ _ _ _ _ _ _ _ _ _ _ _ _ _ _ _ _ _ _ _ G C ca_DRr ?_ ?_
    · exact Or.inr ⟨rfl, rfl, ab_Wn (by omega), by omega, Or.inr (Or.inr ⟨rfl, hA.symm⟩)⟩
    · intro pY h
      refine yt_none hw (O := 25) (by rw [ho]; rfl) (sp_zm (by omega)) (fun P hP => ya_25 hP) ?_
      refine y5_25 (fun P hP => ys_cd25 (fg_zbB _ _ _) (fg_nbB _ _ _) (fg_cbB _ _ _) (fg_vbB _ _ _ _ _) hF hP) (fun q => absurd q e) (fun _ => ?_)
      exact h
theorem sc_26 (hz32 : 32 ≤ sz) (hz : sz ≤ 256) (hr : r < 8) (hi : idx < 128) (hpa : pa < sz) (hw : wn < 65536) (G : sp_G f_regA f_regX f_regS y_fl f_flagBits f_znPending f_znResult f_cvKind f_cvLeft f_cvRight f_cvWide f_inHead f_inSize f_outHead f_outSize a_mem a_inQueue a_outQueue y_inp y_outp) (C : ca_CI sz g a_mem a_marks a_blockStart a_blockCount a_links a_entry a_cover a_opKind a_opMode a_opArg) (ho : wn / 256 = 26) (hK : a_opKind idx = 26) (hM : a_opMode idx = 0) (hA : a_opArg idx = nI (wn % 256)) (KD : sp_KD post sz r idx pa wn g y_ex y_fl y_scr y_vc y_inp y_outp f_size f_executedCount f_regA f_regX f_regS f_pc f_flagBits f_znPending f_znResult f_cvKind f_cvLeft f_cvRight f_cvWide f_inHead f_inSize f_outHead f_outSize f_lastCode f_lastDetail f_cacheLimit f_lengthLimit f_hand f_running f_linkFrom f_exitKind f_controlDone f_trapCode f_trapDetail a_mem a_marks a_visitCount a_inQueue a_outQueue a_blockStart a_blockCount a_blockRecent a_links a_entry a_cover a_opKind a_opMode a_opArg) : wpX_step post (nI sz, f_executedCount, f_regA, f_regX, f_regS, f_pc, f_flagBits, f_znPending, f_znResult, f_cvKind, f_cvLeft, f_cvRight, f_cvWide, f_inHead, f_inSize, f_outHead, f_outSize, f_lastCode, f_lastDetail, f_cacheLimit, f_lengthLimit, f_hand, nI r, -1, 0, 0, 0, 0, a_mem, a_marks, a_visitCount, a_inQueue, a_outQueue, a_blockStart, a_blockCount, a_blockRecent, a_links, a_entry, a_cover, a_opKind, a_opMode, a_opArg) (nI idx) (nI pa) := by
  have G' := G
  obtain ⟨wA, wX, wS, wM, hF, hI, hO⟩ := G'
  refine xk_cond hi hK hM hA (nI_lt (a := 0) (by omega) (by omega)) (by decide) (by decide) (by decide) (by decide) (by decide) (fun P hP => xs_cd26 hP) (fun e => ?_) (fun e => ?_)
  · rw [nI_1]
    refine KD y_fl (nI (pa + 1)) y_inp y_outp g _ _ _ _ _ _ _ _ _ _ _ _ _ _ _ _ _ _ _ _ _ _ _ _ _ _ _ G C ca_DRr ?_ ?_
    · exact Or.inr ⟨rfl, rfl, ab_Wn (by omega), by omega, Or.inr (Or.inl ⟨rfl, rfl⟩)⟩
    · intro pY h
      refine yt_none hw (O := 26) (by rw [ho]; rfl) (sp_zm (by omega)) (fun P hP => ya_26 hP) ?_
      refine y5_26 (fun P hP => ys_cd26 (fg_zbB _ _ _) (fg_nbB _ _ _) (fg_cbB _ _ _) (fg_vbB _ _ _ _ _) hF hP) (fun _ => ?_) (fun q => absurd e q)
      exact h
  · refine KD y_fl (nI (wn % 256)) y_inp y_outp g _ _ _ _ _ _ _ _ _ _ _ _ _ _ _ _ _ _ _ _ _ _ _ _ _ _ _ G C ca_DRr ?_ ?_
    · exact Or.inr ⟨rfl, rfl, ab_Wn (by omega), by omega, Or.inr (Or.inr ⟨rfl, hA.symm⟩)⟩
    · intro pY h
      refine yt_none hw (O := 26) (by rw [ho]; rfl) (sp_zm (by omega)) (fun P hP => ya_26 hP) ?_
      refine y5_26 (fun P hP => ys_cd26 (fg_zbB _ _ _) (fg_nbB _ _ _) (fg_cbB _ _ _) (fg_vbB _ _ _ _ _) hF hP) (fun q => absurd q e) (fun _ => ?_)
      exact h
theorem sc_27 (hz32 : 32 ≤ sz) (hz : sz ≤ 256) (hr : r < 8) (hi : idx < 128) (hpa : pa < sz) (hw : wn < 65536) (G : sp_G f_regA f_regX f_regS y_fl f_flagBits f_znPending f_znResult f_cvKind f_cvLeft f_cvRight f_cvWide f_inHead f_inSize f_outHead f_outSize a_mem a_inQueue a_outQueue y_inp y_outp) (C : ca_CI sz g a_mem a_marks a_blockStart a_blockCount a_links a_entry a_cover a_opKind a_opMode a_opArg) (ho : wn / 256 = 27) (hK : a_opKind idx = 27) (hM : a_opMode idx = 0) (hA : a_opArg idx = nI (wn % 256)) (KD : sp_KD post sz r idx pa wn g y_ex y_fl y_scr y_vc y_inp y_outp f_size f_executedCount f_regA f_regX f_regS f_pc f_flagBits f_znPending f_znResult f_cvKind f_cvLeft f_cvRight f_cvWide f_inHead f_inSize f_outHead f_outSize f_lastCode f_lastDetail f_cacheLimit f_lengthLimit f_hand f_running f_linkFrom f_exitKind f_controlDone f_trapCode f_trapDetail a_mem a_marks a_visitCount a_inQueue a_outQueue a_blockStart a_blockCount a_blockRecent a_links a_entry a_cover a_opKind a_opMode a_opArg) : wpX_step post (nI sz, f_executedCount, f_regA, f_regX, f_regS, f_pc, f_flagBits, f_znPending, f_znResult, f_cvKind, f_cvLeft, f_cvRight, f_cvWide, f_inHead, f_inSize, f_outHead, f_outSize, f_lastCode, f_lastDetail, f_cacheLimit, f_lengthLimit, f_hand, nI r, -1, 0, 0, 0, 0, a_mem, a_marks, a_visitCount, a_inQueue, a_outQueue, a_blockStart, a_blockCount, a_blockRecent, a_links, a_entry, a_cover, a_opKind, a_opMode, a_opArg) (nI idx) (nI pa) := by
  have G' := G
  obtain ⟨wA, wX, wS, wM, hF, hI, hO⟩ := G'
  refine xk_cond hi hK hM hA (nI_lt (a := 0) (by omega) (by omega)) (by decide) (by decide) (by decide) (by decide) (by decide) (fun P hP => xs_cd27 hP) (fun e => ?_) (fun e => ?_)
  · rw [nI_1]
    refine KD y_fl (nI (pa + 1)) y_inp y_outp g _ _ _ _ _ _ _ _ _ _ _ _ _ _ _ _ _ _ _ _ _ _ _ _ _ _ _ G C ca_DRr ?_ ?_
    · exact Or.inr ⟨rfl, rfl, ab_Wn (by omega), by omega, Or.inr (Or.inl ⟨rfl, rfl⟩)⟩
    · intro pY h
      refine yt_none hw (O := 27) (by rw [ho]; rfl) (sp_zm (by omega)) (fun P hP => ya_27 hP) ?_
      refine y5_27 (fun P hP => ys_cd27 (fg_zbB _ _ _) (fg_nbB _ _ _) (fg_cbB _ _ _) (fg_vbB _ _ _ _ _) hF hP) (fun _ => ?_) (fun q => absurd e q)
      exact h
  · refine KD y_fl (nI (wn % 256)) y_inp y_outp g _ _ _ _ _ _ _ _ _ _ _ _ _ _ _ _ _ _ _ _ _ _ _ _ _ _ _ G C ca_DRr ?_ ?_
    · exact Or.inr ⟨rfl, rfl, ab_Wn (by omega), by omega, Or.inr (Or.inr ⟨rfl, hA.symm⟩)⟩
    · intro pY h
      refine yt_none hw (O := 27) (by rw [ho]; rfl) (sp_zm (by omega)) (fun P hP => ya_27 hP) ?_
      refine y5_27 (fun P hP => ys_cd27 (fg_zbB _ _ _) (fg_nbB _ _ _) (fg_cbB _ _ _) (fg_vbB _ _ _ _ _) hF hP) (fun q => absurd q e) (fun _ => ?_)
      exact h
theorem sc_28 (hz32 : 32 ≤ sz) (hz : sz ≤ 256) (hr : r < 8) (hi : idx < 128) (hpa : pa < sz) (hw : wn < 65536) (G : sp_G f_regA f_regX f_regS y_fl f_flagBits f_znPending f_znResult f_cvKind f_cvLeft f_cvRight f_cvWide f_inHead f_inSize f_outHead f_outSize a_mem a_inQueue a_outQueue y_inp y_outp) (C : ca_CI sz g a_mem a_marks a_blockStart a_blockCount a_links a_entry a_cover a_opKind a_opMode a_opArg) (ho : wn / 256 = 28) (hK : a_opKind idx = 28) (hM : a_opMode idx = 0) (hA : a_opArg idx = nI (wn % 256)) (KD : sp_KD post sz r idx pa wn g y_ex y_fl y_scr y_vc y_inp y_outp f_size f_executedCount f_regA f_regX f_regS f_pc f_flagBits f_znPending f_znResult f_cvKind f_cvLeft f_cvRight f_cvWide f_inHead f_inSize f_outHead f_outSize f_lastCode f_lastDetail f_cacheLimit f_lengthLimit f_hand f_running f_linkFrom f_exitKind f_controlDone f_trapCode f_trapDetail a_mem a_marks a_visitCount a_inQueue a_outQueue a_blockStart a_blockCount a_blockRecent a_links a_entry a_cover a_opKind a_opMode a_opArg) : wpX_step post (nI sz, f_executedCount, f_regA, f_regX, f_regS, f_pc, f_flagBits, f_znPending, f_znResult, f_cvKind, f_cvLeft, f_cvRight, f_cvWide, f_inHead, f_inSize, f_outHead, f_outSize, f_lastCode, f_lastDetail, f_cacheLimit, f_lengthLimit, f_hand, nI r, -1, 0, 0, 0, 0, a_mem, a_marks, a_visitCount, a_inQueue, a_outQueue, a_blockStart, a_blockCount, a_blockRecent, a_links, a_entry, a_cover, a_opKind, a_opMode, a_opArg) (nI idx) (nI pa) := by
  have G' := G
  obtain ⟨wA, wX, wS, wM, hF, hI, hO⟩ := G'
  refine xk_cond hi hK hM hA (nI_lt (a := 0) (by omega) (by omega)) (by decide) (by decide) (by decide) (by decide) (by decide) (fun P hP => xs_cd28 hP) (fun e => ?_) (fun e => ?_)
  · rw [nI_1]
    refine KD y_fl (nI (pa + 1)) y_inp y_outp g _ _ _ _ _ _ _ _ _ _ _ _ _ _ _ _ _ _ _ _ _ _ _ _ _ _ _ G C ca_DRr ?_ ?_
    · exact Or.inr ⟨rfl, rfl, ab_Wn (by omega), by omega, Or.inr (Or.inl ⟨rfl, rfl⟩)⟩
    · intro pY h
      refine yt_none hw (O := 28) (by rw [ho]; rfl) (sp_zm (by omega)) (fun P hP => ya_28 hP) ?_
      refine y5_28 (fun P hP => ys_cd28 (fg_zbB _ _ _) (fg_nbB _ _ _) (fg_cbB _ _ _) (fg_vbB _ _ _ _ _) hF hP) (fun _ => ?_) (fun q => absurd e q)
      exact h
  · refine KD y_fl (nI (wn % 256)) y_inp y_outp g _ _ _ _ _ _ _ _ _ _ _ _ _ _ _ _ _ _ _ _ _ _ _ _ _ _ _ G C ca_DRr ?_ ?_
    · exact Or.inr ⟨rfl, rfl, ab_Wn (by omega), by omega, Or.inr (Or.inr ⟨rfl, hA.symm⟩)⟩
    · intro pY h
      refine yt_none hw (O := 28) (by rw [ho]; rfl) (sp_zm (by omega)) (fun P hP => ya_28 hP) ?_
      refine y5_28 (fun P hP => ys_cd28 (fg_zbB _ _ _) (fg_nbB _ _ _) (fg_cbB _ _ _) (fg_vbB _ _ _ _ _) hF hP) (fun q => absurd q e) (fun _ => ?_)
      exact h
theorem sc_29 (hz32 : 32 ≤ sz) (hz : sz ≤ 256) (hr : r < 8) (hi : idx < 128) (hpa : pa < sz) (hw : wn < 65536) (G : sp_G f_regA f_regX f_regS y_fl f_flagBits f_znPending f_znResult f_cvKind f_cvLeft f_cvRight f_cvWide f_inHead f_inSize f_outHead f_outSize a_mem a_inQueue a_outQueue y_inp y_outp) (C : ca_CI sz g a_mem a_marks a_blockStart a_blockCount a_links a_entry a_cover a_opKind a_opMode a_opArg) (ho : wn / 256 = 29) (hK : a_opKind idx = 29) (hM : a_opMode idx = 0) (hA : a_opArg idx = nI (wn % 256)) (KD : sp_KD post sz r idx pa wn g y_ex y_fl y_scr y_vc y_inp y_outp f_size f_executedCount f_regA f_regX f_regS f_pc f_flagBits f_znPending f_znResult f_cvKind f_cvLeft f_cvRight f_cvWide f_inHead f_inSize f_outHead f_outSize f_lastCode f_lastDetail f_cacheLimit f_lengthLimit f_hand f_running f_linkFrom f_exitKind f_controlDone f_trapCode f_trapDetail a_mem a_marks a_visitCount a_inQueue a_outQueue a_blockStart a_blockCount a_blockRecent a_links a_entry a_cover a_opKind a_opMode a_opArg) : wpX_step post (nI sz, f_executedCount, f_regA, f_regX, f_regS, f_pc, f_flagBits, f_znPending, f_znResult, f_cvKind, f_cvLeft, f_cvRight, f_cvWide, f_inHead, f_inSize, f_outHead, f_outSize, f_lastCode, f_lastDetail, f_cacheLimit, f_lengthLimit, f_hand, nI r, -1, 0, 0, 0, 0, a_mem, a_marks, a_visitCount, a_inQueue, a_outQueue, a_blockStart, a_blockCount, a_blockRecent, a_links, a_entry, a_cover, a_opKind, a_opMode, a_opArg) (nI idx) (nI pa) := by
  have G' := G
  obtain ⟨wA, wX, wS, wM, hF, hI, hO⟩ := G'
  refine xk_cond hi hK hM hA (nI_lt (a := 0) (by omega) (by omega)) (by decide) (by decide) (by decide) (by decide) (by decide) (fun P hP => xs_cd29 hP) (fun e => ?_) (fun e => ?_)
  · rw [nI_1]
    refine KD y_fl (nI (pa + 1)) y_inp y_outp g _ _ _ _ _ _ _ _ _ _ _ _ _ _ _ _ _ _ _ _ _ _ _ _ _ _ _ G C ca_DRr ?_ ?_
    · exact Or.inr ⟨rfl, rfl, ab_Wn (by omega), by omega, Or.inr (Or.inl ⟨rfl, rfl⟩)⟩
    · intro pY h
      refine yt_none hw (O := 29) (by rw [ho]; rfl) (sp_zm (by omega)) (fun P hP => ya_29 hP) ?_
      refine y5_29 (fun P hP => ys_cd29 (fg_zbB _ _ _) (fg_nbB _ _ _) (fg_cbB _ _ _) (fg_vbB _ _ _ _ _) hF hP) (fun _ => ?_) (fun q => absurd e q)
      exact h
  · refine KD y_fl (nI (wn % 256)) y_inp y_outp g _ _ _ _ _ _ _ _ _ _ _ _ _ _ _ _ _ _ _ _ _ _ _ _ _ _ _ G C ca_DRr ?_ ?_
    · exact Or.inr ⟨rfl, rfl, ab_Wn (by omega), by omega, Or.inr (Or.inr ⟨rfl, hA.symm⟩)⟩
    · intro pY h
      refine yt_none hw (O := 29) (by rw [ho]; rfl) (sp_zm (by omega)) (fun P hP => ya_29 hP) ?_
      refine y5_29 (fun P hP => ys_cd29 (fg_zbB _ _ _) (fg_nbB _ _ _) (fg_cbB _ _ _) (fg_vbB _ _ _ _ _) hF hP) (fun q => absurd q e) (fun _ => ?_)
      exact h
theorem sc_19 (hz32 : 32 ≤ sz) (hz : sz ≤ 256) (hr : r < 8) (hi : idx < 128) (hpa : pa < sz) (hw : wn < 65536) (G : sp_G f_regA f_regX f_regS y_fl f_flagBits f_znPending f_znResult f_cvKind f_cvLeft f_cvRight f_cvWide f_inHead f_inSize f_outHead f_outSize a_mem a_inQueue a_outQueue y_inp y_outp) (C : ca_CI sz g a_mem a_marks a_blockStart a_blockCount a_links a_entry a_cover a_opKind a_opMode a_opArg) (ho : wn / 256 = 19) (hK : a_opKind idx = 19) (hM : a_opMode idx = 5) (hA : a_opArg idx = nI (wn % 256)) (KD : sp_KD post sz r idx pa wn g y_ex y_fl y_scr y_vc y_inp y_outp f_size f_executedCount f_regA f_regX f_regS f_pc f_flagBits f_znPending f_znResult f_cvKind f_cvLeft f_cvRight f_cvWide f_inHead f_inSize f_outHead f_outSize f_lastCode f_lastDetail f_cacheLimit f_lengthLimit f_hand f_running f_linkFrom f_exitKind f_controlDone f_trapCode f_trapDetail a_mem a_marks a_visitCount a_inQueue a_outQueue a_blockStart a_blockCount a_blockRecent a_links a_entry a_cover a_opKind a_opMode a_opArg) (KT : sp_KT post sz r pa wn y_ex y_fl y_scr y_vc y_inp y_outp f_size f_executedCount f_regA f_regX f_regS f_pc f_flagBits f_znPending f_znResult f_cvKind f_cvLeft f_cvRight f_cvWide f_inHead f_inSize f_outHead f_outSize f_lastCode f_lastDetail f_cacheLimit f_lengthLimit f_hand f_running f_linkFrom f_exitKind f_controlDone f_trapCode f_trapDetail a_mem a_marks a_visitCount a_inQueue a_outQueue a_blockStart a_blockCount a_blockRecent a_links a_entry a_cover a_opKind a_opMode a_opArg) : wpX_step post (nI sz, f_executedCount, f_regA, f_regX, f_regS, f_pc, f_flagBits, f_znPending, f_znResult, f_cvKind, f_cvLeft, f_cvRight, f_cvWide, f_inHead, f_inSize, f_outHead, f_outSize, f_lastCode, f_lastDetail, f_cacheLimit, f_lengthLimit, f_hand, nI r, -1, 0, 0, 0, 0, a_mem, a_marks, a_visitCount, a_inQueue, a_outQueue, a_blockStart, a_blockCount, a_blockRecent, a_links, a_entry, a_cover, a_opKind, a_opMode, a_opArg) (nI idx) (nI pa) := by
  obtain ⟨wA, wX, wS, wM, hF, hI, hO⟩ := G
  have wS' := wS
  obtain ⟨a, ha, ea⟩ := wS'
  by_cases hlt : a < sz
  · have hs : nI a < nI sz := nI_lt hlt (by omega)
    refine xk_19 hi hK hM hA ea (by omega) hs ?_
    refine KD y_fl (a_mem a) y_inp y_outp g _ _ _ _ _ _ _ _ _ _ _ _ _ _ _ _ _ _ _ _ _ _ _ _ _ _ _ ?_ C ca_DRr ?_ ?_
    · exact ⟨wA, wX, ab_Wand _, wM, hF, hI, hO⟩
    · exact Or.inr ⟨rfl, rfl, wM a, by omega, Or.inl rfl⟩
    · intro pY h
      refine yt_addr hw (O := 19) (by rw [ho]; rfl) (by omega) hs (fun P hP => ya_19 ea hP) ?_
      refine y5_19 ?_
      exact h
  · have hs : ¬ nI a < nI sz := nI_nlt (by omega) (by omega)
    refine xk_A5 hi hK hM hA (by decide) ea hs ?_
    refine KT 9 _ (by decide) ?_
    intro pY h
    refine yt_trap hw (O := 19) (by rw [ho]; rfl) hs (fun P hP => ya_19 ea hP) ?_
    exact h
theorem sc_38 (hz32 : 32 ≤ sz) (hz : sz ≤ 256) (hr : r < 8) (hi : idx < 128) (hpa : pa < sz) (hw : wn < 65536) (G : sp_G f_regA f_regX f_regS y_fl f_flagBits f_znPending f_znResult f_cvKind f_cvLeft f_cvRight f_cvWide f_inHead f_inSize f_outHead f_outSize a_mem a_inQueue a_outQueue y_inp y_outp) (C : ca_CI sz g a_mem a_marks a_blockStart a_blockCount a_links a_entry a_cover a_opKind a_opMode a_opArg) (ho : wn / 256 = 38) (hK : a_opKind idx = 38) (hM : a_opMode idx = 5) (hA : a_opArg idx = nI (wn % 256)) (KD : sp_KD post sz r idx pa wn g y_ex y_fl y_scr y_vc y_inp y_outp f_size f_executedCount f_regA f_regX f_regS f_pc f_flagBits f_znPending f_znResult f_cvKind f_cvLeft f_cvRight f_cvWide f_inHead f_inSize f_outHead f_outSize f_lastCode f_lastDetail f_cacheLimit f_lengthLimit f_hand f_running f_linkFrom f_exitKind f_controlDone f_trapCode f_trapDetail a_mem a_marks a_visitCount a_inQueue a_outQueue a_blockStart a_blockCount a_blockRecent a_links a_entry a_cover a_opKind a_opMode a_opArg) (KT : sp_KT post sz r pa wn y_ex y_fl y_scr y_vc y_inp y_outp f_size f_executedCount f_regA f_regX f_regS f_pc f_flagBits f_znPending f_znResult f_cvKind f_cvLeft f_cvRight f_cvWide f_inHead f_inSize f_outHead f_outSize f_lastCode f_lastDetail f_cacheLimit f_lengthLimit f_hand f_running f_linkFrom f_exitKind f_controlDone f_trapCode f_trapDetail a_mem a_marks a_visitCount a_inQueue a_outQueue a_blockStart a_blockCount a_blockRecent a_links a_entry a_cover a_opKind a_opMode a_opArg) : wpX_step post (nI sz, f_executedCount, f_regA, f_regX, f_regS, f_pc, f_flagBits, f_znPending, f_znResult, f_cvKind, f_cvLeft, f_cvRight, f_cvWide, f_inHead, f_inSize, f_outHead, f_outSize, f_lastCode, f_lastDetail, f_cacheLimit, f_lengthLimit, f_hand, nI r, -1, 0, 0, 0, 0, a_mem, a_marks, a_visitCount, a_inQueue, a_outQueue, a_blockStart, a_blockCount, a_blockRecent, a_links, a_entry, a_cover, a_opKind, a_opMode, a_opArg) (nI idx) (nI pa) := by
  obtain ⟨wA, wX, wS, wM, hF, hI, hO⟩ := G
  have wS' := wS
  obtain ⟨a, ha, ea⟩ := wS'
  by_cases hlt : a < sz
  · have hs : nI a < nI sz := nI_lt hlt (by omega)
    refine xk_38 hi hK hM hA ea (by omega) hs ?_
    refine KD (fg_zn y_fl (a_mem a)) (nI (pa + 1)) y_inp y_outp g _ _ _ _ _ _ _ _ _ _ _ _ _ _ _ _ _ _ _ _ _ _ _ _ _ _ _ ?_ C ca_DRr ?_ ?_
    · exact ⟨wM a, wX, ab_Wand _, wM, by rw [hF]; exact fg_znF, hI, hO⟩
    · exact Or.inl ⟨rfl, rfl, rfl, by omega⟩
    · intro pY h
      refine yt_addr hw (O := 38) (by rw [ho]; rfl) (by omega) hs (fun P hP => ya_38 ea hP) ?_
      refine y5_38 ?_
      exact h
  · have hs : ¬ nI a < nI sz := nI_nlt (by omega) (by omega)
    refine xk_A5 hi hK hM hA (by decide) ea hs ?_
    refine KT 9 _ (by decide) ?_
    intro pY h
    refine yt_trap hw (O := 38) (by rw [ho]; rfl) hs (fun P hP => ya_38 ea hP) ?_
    exact h
theorem sc_40 (hz32 : 32 ≤ sz) (hz : sz ≤ 256) (hr : r < 8) (hi : idx < 128) (hpa : pa < sz) (hw : wn < 65536) (G : sp_G f_regA f_regX f_regS y_fl f_flagBits f_znPending f_znResult f_cvKind f_cvLeft f_cvRight f_cvWide f_inHead f_inSize f_outHead f_outSize a_mem a_inQueue a_outQueue y_inp y_outp) (C : ca_CI sz g a_mem a_marks a_blockStart a_blockCount a_links a_entry a_cover a_opKind a_opMode a_opArg) (ho : wn / 256 = 40) (hK : a_opKind idx = 40) (hM : a_opMode idx = 5) (hA : a_opArg idx = nI (wn % 256)) (KD : sp_KD post sz r idx pa wn g y_ex y_fl y_scr y_vc y_inp y_outp f_size f_executedCount f_regA f_regX f_regS f_pc f_flagBits f_znPending f_znResult f_cvKind f_cvLeft f_cvRight f_cvWide f_inHead f_inSize f_outHead f_outSize f_lastCode f_lastDetail f_cacheLimit f_lengthLimit f_hand f_running f_linkFrom f_exitKind f_controlDone f_trapCode f_trapDetail a_mem a_marks a_visitCount a_inQueue a_outQueue a_blockStart a_blockCount a_blockRecent a_links a_entry a_cover a_opKind a_opMode a_opArg) (KT : sp_KT post sz r pa wn y_ex y_fl y_scr y_vc y_inp y_outp f_size f_executedCount f_regA f_regX f_regS f_pc f_flagBits f_znPending f_znResult f_cvKind f_cvLeft f_cvRight f_cvWide f_inHead f_inSize f_outHead f_outSize f_lastCode f_lastDetail f_cacheLimit f_lengthLimit f_hand f_running f_linkFrom f_exitKind f_controlDone f_trapCode f_trapDetail a_mem a_marks a_visitCount a_inQueue a_outQueue a_blockStart a_blockCount a_blockRecent a_links a_entry a_cover a_opKind a_opMode a_opArg) : wpX_step post (nI sz, f_executedCount, f_regA, f_regX, f_regS, f_pc, f_flagBits, f_znPending, f_znResult, f_cvKind, f_cvLeft, f_cvRight, f_cvWide, f_inHead, f_inSize, f_outHead, f_outSize, f_lastCode, f_lastDetail, f_cacheLimit, f_lengthLimit, f_hand, nI r, -1, 0, 0, 0, 0, a_mem, a_marks, a_visitCount, a_inQueue, a_outQueue, a_blockStart, a_blockCount, a_blockRecent, a_links, a_entry, a_cover, a_opKind, a_opMode, a_opArg) (nI idx) (nI pa) := by
  obtain ⟨wA, wX, wS, wM, hF, hI, hO⟩ := G
  have wS' := wS
  obtain ⟨a, ha, ea⟩ := wS'
  by_cases hlt : a < sz
  · have hs : nI a < nI sz := nI_lt hlt (by omega)
    refine xk_40 hi hK hM hA ea (by omega) hs ?_
    refine KD (a_mem a &&& 15) (nI (pa + 1)) y_inp y_outp g _ _ _ _ _ _ _ _ _ _ _ _ _ _ _ _ _ _ _ _ _ _ _ _ _ _ _ ?_ C ca_DRr ?_ ?_
    · exact ⟨wA, wX, ab_Wand _, wM, fg_ld.symm, hI, hO⟩
    · exact Or.inl ⟨rfl, rfl, rfl, by omega⟩
    · intro pY h
      refine yt_addr hw (O := 40) (by rw [ho]; rfl) (by omega) hs (fun P hP => ya_40 ea hP) ?_
      refine y5_40 ?_
      exact h
  · have hs : ¬ nI a < nI sz := nI_nlt (by omega) (by omega)
    refine xk_A5 hi hK hM hA (by decide) ea hs ?_
    refine KT 9 _ (by decide) ?_
    intro pY h
    refine yt_trap hw (O := 40) (by rw [ho]; rfl) hs (fun P hP => ya_40 ea hP) ?_
    exact h
end SP
end
section
/-! the step, in lockstep (printed by gen12.py) -/
section SP
variable {f_size f_executedCount f_regA f_regX f_regS f_pc f_flagBits f_znPending f_znResult f_cvKind f_cvLeft f_cvRight f_cvWide f_inHead f_inSize f_outHead f_outSize f_lastCode f_lastDetail f_cacheLimit f_lengthLimit f_hand f_running f_linkFrom f_exitKind f_controlDone f_trapCode f_trapDetail : Int32} {a_mem a_marks a_visitCount a_inQueue a_outQueue a_blockStart a_blockCount a_blockRecent a_links a_entry a_cover a_opKind a_opMode a_opArg : Nat → Int32}
variable {y_fl : Int32} {y_scr y_inp y_outp : Nat → Int32}
variable {y_ex : Int32} {y_vc : Nat → Int32} {post : Int32 → SX → Prop} {sz r idx pa wn : Nat} {g : Nat → Option (Nat × Nat)}
theorem sc_32i (hz32 : 32 ≤ sz) (hz : sz ≤ 256) (hr : r < 8) (hi : idx < 128) (hpa : pa < sz) (hw : wn < 65536) (G : sp_G f_regA f_regX f_regS y_fl f_flagBits f_znPending f_znResult f_cvKind f_cvLeft f_cvRight f_cvWide f_inHead f_inSize f_outHead f_outSize a_mem a_inQueue a_outQueue y_inp y_outp) (C : ca_CI sz g a_mem a_marks a_blockStart a_blockCount a_links a_entry a_cover a_opKind a_opMode a_opArg) (ho : wn / 256 = 32) (hK : a_opKind idx = 32) (hM : a_opMode idx = 1) (hA : a_opArg idx = nI (wn % 256)) {a : Nat} (ha : wn % 256 = a) (hlt : a < sz) (KD : sp_KD post sz r idx pa wn g y_ex y_fl y_scr y_vc y_inp y_outp f_size f_executedCount f_regA f_regX f_regS f_pc f_flagBits f_znPending f_znResult f_cvKind f_cvLeft f_cvRight f_cvWide f_inHead f_inSize f_outHead f_outSize f_lastCode f_lastDetail f_cacheLimit f_lengthLimit f_hand f_running f_linkFrom f_exitKind f_controlDone f_trapCode f_trapDetail a_mem a_marks a_visitCount a_inQueue a_outQueue a_blockStart a_blockCount a_blockRecent a_links a_entry a_cover a_opKind a_opMode a_opArg) : wpX_step post (nI sz, f_executedCount, f_regA, f_regX, f_regS, f_pc, f_flagBits, f_znPending, f_znResult, f_cvKind, f_cvLeft, f_cvRight, f_cvWide, f_inHead, f_inSize, f_outHead, f_outSize, f_lastCode, f_lastDetail, f_cacheLimit, f_lengthLimit, f_hand, nI r, -1, 0, 0, 0, 0, a_mem, a_marks, a_visitCount, a_inQueue, a_outQueue, a_blockStart, a_blockCount, a_blockRecent, a_links, a_entry, a_cover, a_opKind, a_opMode, a_opArg) (nI idx) (nI pa) := by
  subst ha
  obtain ⟨wA, wX, wS, wM, hF, hI, hO⟩ := G
  have hs : nI (wn % 256) < nI sz := nI_lt hlt (by omega)
  have hin : vp_in (nI idx) 128 := vp_in_nI hi (by decide)
  have ec : (nI idx).toNatClampNeg = idx := nI_clamp (by omega)
  refine And.intro hin (nm_r (e' := 32) (by rw [ec]; exact hK) ?_)
  refine And.intro hin (nm_r (e' := 1) (by rw [ec]; exact hM) ?_)
  refine And.intro hin (nm_r (e' := nI (wn % 256)) (by rw [ec]; exact hA) ?_)
  refine br_t (by decide) ?_
  refine xs_ea1 ?_
  refine br_t hs ?_
  refine br_t (by decide) ?_
  refine br_f (by decide) ?_
  iterate 2 refine br_f (by decide) ?_
  refine br_t (by decide) ?_
  refine xd_store hz (by omega) C ?_
  intro g' run' lf' bs' bc' br' lk' en' cv' C' D'
  have el : lf' = -1 := D'.2.2.1.elim id id
  subst el
  refine KD y_fl (nI (pa + 1)) y_inp y_outp g' _ _ _ _ _ _ _ _ _ _ _ _ _ _ _ _ _ _ _ _ _ _ _ _ _ _ _ ?_ C' D' ?_ ?_
  · exact ⟨wA, wX, wS, ab_Wup wM wA, hF, hI, hO⟩
  · exact Or.inl ⟨rfl, rfl, rfl, by omega⟩
  · intro pY h
    refine yt_addr hw (O := 32) (by rw [ho]; rfl) (by omega) hs (fun P hP => ya_32 rfl hP) ?_
    refine y5_32 (by omega) hs ?_
    exact h
theorem sc_33i (hz32 : 32 ≤ sz) (hz : sz ≤ 256) (hr : r < 8) (hi : idx < 128) (hpa : pa < sz) (hw : wn < 65536) (G : sp_G f_regA f_regX f_regS y_fl f_flagBits f_znPending f_znResult f_cvKind f_cvLeft f_cvRight f_cvWide f_inHead f_inSize f_outHead f_outSize a_mem a_inQueue a_outQueue y_inp y_outp) (C : ca_CI sz g a_mem a_marks a_blockStart a_blockCount a_links a_entry a_cover a_opKind a_opMode a_opArg) (ho : wn / 256 = 33) (hK : a_opKind idx = 32) (hM : a_opMode idx = 2) (hA : a_opArg idx = nI (wn % 256)) {a : Nat} (ea : (nI (wn % 256) + f_regX) &&& 65535 = nI a) (hlt : a < sz) (KD : sp_KD post sz r idx pa wn g y_ex y_fl y_scr y_vc y_inp y_outp f_size f_executedCount f_regA f_regX f_regS f_pc f_flagBits f_znPending f_znResult f_cvKind f_cvLeft f_cvRight f_cvWide f_inHead f_inSize f_outHead f_outSize f_lastCode f_lastDetail f_cacheLimit f_lengthLimit f_hand f_running f_linkFrom f_exitKind f_controlDone f_trapCode f_trapDetail a_mem a_marks a_visitCount a_inQueue a_outQueue a_blockStart a_blockCount a_blockRecent a_links a_entry a_cover a_opKind a_opMode a_opArg) : wpX_step post (nI sz, f_executedCount, f_regA, f_regX, f_regS, f_pc, f_flagBits, f_znPending, f_znResult, f_cvKind, f_cvLeft, f_cvRight, f_cvWide, f_inHead, f_inSize, f_outHead, f_outSize, f_lastCode, f_lastDetail, f_cacheLimit, f_lengthLimit, f_hand, nI r, -1, 0, 0, 0, 0, a_mem, a_marks, a_visitCount, a_inQueue, a_outQueue, a_blockStart, a_blockCount, a_blockRecent, a_links, a_entry, a_cover, a_opKind, a_opMode, a_opArg) (nI idx) (nI pa) := by
  obtain ⟨wA, wX, wS, wM, hF, hI, hO⟩ := G
  have hs : nI a < nI sz := nI_lt hlt (by omega)
  have hin : vp_in (nI idx) 128 := vp_in_nI hi (by decide)
  have ec : (nI idx).toNatClampNeg = idx := nI_clamp (by omega)
  refine And.intro hin (nm_r (e' := 32) (by rw [ec]; exact hK) ?_)
  refine And.intro hin (nm_r (e' := 2) (by rw [ec]; exact hM) ?_)
  refine And.intro hin (nm_r (e' := nI (wn % 256)) (by rw [ec]; exact hA) ?_)
  refine br_t (by decide) ?_
  refine xs_ea2 ea ?_
  refine br_t hs ?_
  refine br_t (by decide) ?_
  refine br_f (by decide) ?_
  iterate 2 refine br_f (by decide) ?_
  refine br_t (by decide) ?_
  refine xd_store hz (by omega) C ?_
  intro g' run' lf' bs' bc' br' lk' en' cv' C' D'
  have el : lf' = -1 := D'.2.2.1.elim id id
  subst el
  refine KD y_fl (nI (pa + 1)) y_inp y_outp g' _ _ _ _ _ _ _ _ _ _ _ _ _ _ _ _ _ _ _ _ _ _ _ _ _ _ _ ?_ C' D' ?_ ?_
  · exact ⟨wA, wX, wS, ab_Wup wM wA, hF, hI, hO⟩
  · exact Or.inl ⟨rfl, rfl, rfl, by omega⟩
  · intro pY h
    refine yt_addr hw (O := 33) (by rw [ho]; rfl) (by omega) hs (fun P hP => ya_33 ea hP) ?_
    refine y5_33 (by omega) hs ?_
    exact h
theorem sc_33 (hz32 : 32 ≤ sz) (hz : sz ≤ 256) (hr : r < 8) (hi : idx < 128) (hpa : pa < sz) (hw : wn < 65536) (G : sp_G f_regA f_regX f_regS y_fl f_flagBits f_znPending f_znResult f_cvKind f_cvLeft f_cvRight f_cvWide f_inHead f_inSize f_outHead f_outSize a_mem a_inQueue a_outQueue y_inp y_outp) (C : ca_CI sz g a_mem a_marks a_blockStart a_blockCount a_links a_entry a_cover a_opKind a_opMode a_opArg) (ho : wn / 256 = 33) (hK : a_opKind idx = 32) (hM : a_opMode idx = 2) (hA : a_opArg idx = nI (wn % 256)) (KD : sp_KD post sz r idx pa wn g y_ex y_fl y_scr y_vc y_inp y_outp f_size f_executedCount f_regA f_regX f_regS f_pc f_flagBits f_znPending f_znResult f_cvKind f_cvLeft f_cvRight f_cvWide f_inHead f_inSize f_outHead f_outSize f_lastCode f_lastDetail f_cacheLimit f_lengthLimit f_hand f_running f_linkFrom f_exitKind f_controlDone f_trapCode f_trapDetail a_mem a_marks a_visitCount a_inQueue a_outQueue a_blockStart a_blockCount a_blockRecent a_links a_entry a_cover a_opKind a_opMode a_opArg) (KT : sp_KT post sz r pa wn y_ex y_fl y_scr y_vc y_inp y_outp f_size f_executedCount f_regA f_regX f_regS f_pc f_flagBits f_znPending f_znResult f_cvKind f_cvLeft f_cvRight f_cvWide f_inHead f_inSize f_outHead f_outSize f_lastCode f_lastDetail f_cacheLimit f_lengthLimit f_hand f_running f_linkFrom f_exitKind f_controlDone f_trapCode f_trapDetail a_mem a_marks a_visitCount a_inQueue a_outQueue a_blockStart a_blockCount a_blockRecent a_links a_entry a_cover a_opKind a_opMode a_opArg) : wpX_step post (nI sz, f_executedCount, f_regA, f_regX, f_regS, f_pc, f_flagBits, f_znPending, f_znResult, f_cvKind, f_cvLeft, f_cvRight, f_cvWide, f_inHead, f_inSize, f_outHead, f_outSize, f_lastCode, f_lastDetail, f_cacheLimit, f_lengthLimit, f_hand, nI r, -1, 0, 0, 0, 0, a_mem, a_marks, a_visitCount, a_inQueue, a_outQueue, a_blockStart, a_blockCount, a_blockRecent, a_links, a_entry, a_cover, a_opKind, a_opMode, a_opArg) (nI idx) (nI pa) := by
  obtain ⟨a, ha, ea⟩ := ab_Wand (nI (wn % 256) + f_regX)
  by_cases hlt : a < sz
  · exact sc_33i hz32 hz hr hi hpa hw G C ho hK hM hA ea hlt KD
  · have hs : ¬ nI a < nI sz := nI_nlt (by omega) (by omega)
    refine xk_A2 hi hK hM hA (by decide) ea hs ?_
    refine KT 9 _ (by decide) ?_
    intro pY h
    refine yt_trap hw (O := 33) (by rw [ho]; rfl) hs (fun P hP => ya_33 ea hP) ?_
    exact h
theorem sc_34i (hz32 : 32 ≤ sz) (hz : sz ≤ 256) (hr : r < 8) (hi : idx < 128) (hpa : pa < sz) (hw : wn < 65536) (G : sp_G f_regA f_regX f_regS y_fl f_flagBits f_znPending f_znResult f_cvKind f_cvLeft f_cvRight f_cvWide f_inHead f_inSize f_outHead f_outSize a_mem a_inQueue a_outQueue y_inp y_outp) (C : ca_CI sz g a_mem a_marks a_blockStart a_blockCount a_links a_entry a_cover a_opKind a_opMode a_opArg) (ho : wn / 256 = 34) (hK : a_opKind idx = 34) (hM : a_opMode idx = 1) (hA : a_opArg idx = nI (wn % 256)) {a : Nat} (ha : wn % 256 = a) (hlt : a < sz) (KD : sp_KD post sz r idx pa wn g y_ex y_fl y_scr y_vc y_inp y_outp f_size f_executedCount f_regA f_regX f_regS f_pc f_flagBits f_znPending f_znResult f_cvKind f_cvLeft f_cvRight f_cvWide f_inHead f_inSize f_outHead f_outSize f_lastCode f_lastDetail f_cacheLimit f_lengthLimit f_hand f_running f_linkFrom f_exitKind f_controlDone f_trapCode f_trapDetail a_mem a_marks a_visitCount a_inQueue a_outQueue a_blockStart a_blockCount a_blockRecent a_links a_entry a_cover a_opKind a_opMode a_opArg) : wpX_step post (nI sz, f_executedCount, f_regA, f_regX, f_regS, f_pc, f_flagBits, f_znPending, f_znResult, f_cvKind, f_cvLeft, f_cvRight, f_cvWide, f_inHead, f_inSize, f_outHead, f_outSize, f_lastCode, f_lastDetail, f_cacheLimit, f_lengthLimit, f_hand, nI r, -1, 0, 0, 0, 0, a_mem, a_marks, a_visitCount, a_inQueue, a_outQueue, a_blockStart, a_blockCount, a_blockRecent, a_links, a_entry, a_cover, a_opKind, a_opMode, a_opArg) (nI idx) (nI pa) := by
  subst ha
  obtain ⟨wA, wX, wS, wM, hF, hI, hO⟩ := G
  have hs : nI (wn % 256) < nI sz := nI_lt hlt (by omega)
  have hin : vp_in (nI idx) 128 := vp_in_nI hi (by decide)
  have ec : (nI idx).toNatClampNeg = idx := nI_clamp (by omega)
  refine And.intro hin (nm_r (e' := 34) (by rw [ec]; exact hK) ?_)
  refine And.intro hin (nm_r (e' := 1) (by rw [ec]; exact hM) ?_)
  refine And.intro hin (nm_r (e' := nI (wn % 256)) (by rw [ec]; exact hA) ?_)
  refine br_t (by decide) ?_
  refine xs_ea1 ?_
  refine br_t hs ?_
  refine br_t (by decide) ?_
  refine br_f (by decide) ?_
  iterate 4 refine br_f (by decide) ?_
  refine br_t (by decide) ?_
  refine xd_store hz (by omega) C ?_
  intro g' run' lf' bs' bc' br' lk' en' cv' C' D'
  have el : lf' = -1 := D'.2.2.1.elim id id
  subst el
  refine KD y_fl (nI (pa + 1)) y_inp y_outp g' _ _ _ _ _ _ _ _ _ _ _ _ _ _ _ _ _ _ _ _ _ _ _ _ _ _ _ ?_ C' D' ?_ ?_
  · exact ⟨wA, wX, wS, ab_Wup wM wX, hF, hI, hO⟩
  · exact Or.inl ⟨rfl, rfl, rfl, by omega⟩
  · intro pY h
    refine yt_addr hw (O := 34) (by rw [ho]; rfl) (by omega) hs (fun P hP => ya_34 rfl hP) ?_
    refine y5_34 (by omega) hs ?_
    exact h
theorem sc_35i (hz32 : 32 ≤ sz) (hz : sz ≤ 256) (hr : r < 8) (hi : idx < 128) (hpa : pa < sz) (hw : wn < 65536) (G : sp_G f_regA f_regX f_regS y_fl f_flagBits f_znPending f_znResult f_cvKind f_cvLeft f_cvRight f_cvWide f_inHead f_inSize f_outHead f_outSize a_mem a_inQueue a_outQueue y_inp y_outp) (C : ca_CI sz g a_mem a_marks a_blockStart a_blockCount a_links a_entry a_cover a_opKind a_opMode a_opArg) (ho : wn / 256 = 35) (hK : a_opKind idx = 35) (hM : a_opMode idx = 1) (hA : a_opArg idx = nI (wn % 256)) {a : Nat} (ha : wn % 256 = a) (hlt : a < sz) (KD : sp_KD post sz r idx pa wn g y_ex y_fl y_scr y_vc y_inp y_outp f_size f_executedCount f_regA f_regX f_regS f_pc f_flagBits f_znPending f_znResult f_cvKind f_cvLeft f_cvRight f_cvWide f_inHead f_inSize f_outHead f_outSize f_lastCode f_lastDetail f_cacheLimit f_lengthLimit f_hand f_running f_linkFrom f_exitKind f_controlDone f_trapCode f_trapDetail a_mem a_marks a_visitCount a_inQueue a_outQueue a_blockStart a_blockCount a_blockRecent a_links a_entry a_cover a_opKind a_opMode a_opArg) : wpX_step post (nI sz, f_executedCount, f_regA, f_regX, f_regS, f_pc, f_flagBits, f_znPending, f_znResult, f_cvKind, f_cvLeft, f_cvRight, f_cvWide, f_inHead, f_inSize, f_outHead, f_outSize, f_lastCode, f_lastDetail, f_cacheLimit, f_lengthLimit, f_hand, nI r, -1, 0, 0, 0, 0, a_mem, a_marks, a_visitCount, a_inQueue, a_outQueue, a_blockStart, a_blockCount, a_blockRecent, a_links, a_entry, a_cover, a_opKind, a_opMode, a_opArg) (nI idx) (nI pa) := by
  subst ha
  obtain ⟨wA, wX, wS, wM, hF, hI, hO⟩ := G
  have hs : nI (wn % 256) < nI sz := nI_lt hlt (by omega)
  have hin : vp_in (nI idx) 128 := vp_in_nI hi (by decide)
  have ec : (nI idx).toNatClampNeg = idx := nI_clamp (by omega)
  refine And.intro hin (nm_r (e' := 35) (by rw [ec]; exact hK) ?_)
  refine And.intro hin (nm_r (e' := 1) (by rw [ec]; exact hM) ?_)
  refine And.intro hin (nm_r (e' := nI (wn % 256)) (by rw [ec]; exact hA) ?_)
  refine br_t (by decide) ?_
  refine xs_ea1 ?_
  refine br_t hs ?_
  refine br_t (by decide) ?_
  refine br_f (by decide) ?_
  iterate 5 refine br_f (by decide) ?_
  refine br_t (by decide) ?_
  refine And.intro (vp_in_nI (by omega) (by decide)) ?_
  refine nm_r (e' := (a_mem (wn % 256) + 1) &&& 65535) (by rw [nI_clamp (by omega)]) ?_
  refine xd_store hz (by omega) C ?_
  intro g' run' lf' bs' bc' br' lk' en' cv' C' D'
  have el : lf' = -1 := D'.2.2.1.elim id id
  subst el
  refine KD (fg_zn y_fl ((a_mem (wn % 256) + 1) &&& 65535)) (nI (pa + 1)) y_inp y_outp g' _ _ _ _ _ _ _ _ _ _ _ _ _ _ _ _ _ _ _ _ _ _ _ _ _ _ _ ?_ C' D' ?_ ?_
  · exact ⟨wA, wX, wS, ab_Wup wM (ab_Wand _), by rw [hF]; exact fg_znF, hI, hO⟩
  · exact Or.inl ⟨rfl, rfl, rfl, by omega⟩
  · intro pY h
    refine yt_addr hw (O := 35) (by rw [ho]; rfl) (by omega) hs (fun P hP => ya_35 rfl hP) ?_
    refine y5_35 (by omega) hs ?_
    exact h
theorem sc_36i (hz32 : 32 ≤ sz) (hz : sz ≤ 256) (hr : r < 8) (hi : idx < 128) (hpa : pa < sz) (hw : wn < 65536) (G : sp_G f_regA f_regX f_regS y_fl f_flagBits f_znPending f_znResult f_cvKind f_cvLeft f_cvRight f_cvWide f_inHead f_inSize f_outHead f_outSize a_mem a_inQueue a_outQueue y_inp y_outp) (C : ca_CI sz g a_mem a_marks a_blockStart a_blockCount a_links a_entry a_cover a_opKind a_opMode a_opArg) (ho : wn / 256 = 36) (hK : a_opKind idx = 35) (hM : a_opMode idx = 2) (hA : a_opArg idx = nI (wn % 256)) {a : Nat} (ea : (nI (wn % 256) + f_regX) &&& 65535 = nI a) (hlt : a < sz) (KD : sp_KD post sz r idx pa wn g y_ex y_fl y_scr y_vc y_inp y_outp f_size f_executedCount f_regA f_regX f_regS f_pc f_flagBits f_znPending f_znResult f_cvKind f_cvLeft f_cvRight f_cvWide f_inHead f_inSize f_outHead f_outSize f_lastCode f_lastDetail f_cacheLimit f_lengthLimit f_hand f_running f_linkFrom f_exitKind f_controlDone f_trapCode f_trapDetail a_mem a_marks a_visitCount a_inQueue a_outQueue a_blockStart a_blockCount a_blockRecent a_links a_entry a_cover a_opKind a_opMode a_opArg) : wpX_step post (nI sz, f_executedCount, f_regA, f_regX, f_regS, f_pc, f_flagBits, f_znPending, f_znResult, f_cvKind, f_cvLeft, f_cvRight, f_cvWide, f_inHead, f_inSize, f_outHead, f_outSize, f_lastCode, f_lastDetail, f_cacheLimit, f_lengthLimit, f_hand, nI r, -1, 0, 0, 0, 0, a_mem, a_marks, a_visitCount, a_inQueue, a_outQueue, a_blockStart, a_blockCount, a_blockRecent, a_links, a_entry, a_cover, a_opKind, a_opMode, a_opArg) (nI idx) (nI pa) := by
  obtain ⟨wA, wX, wS, wM, hF, hI, hO⟩ := G
  have hs : nI a < nI sz := nI_lt hlt (by omega)
  have hin : vp_in (nI idx) 128 := vp_in_nI hi (by decide)
  have ec : (nI idx).toNatClampNeg = idx := nI_clamp (by omega)
  refine And.intro hin (nm_r (e' := 35) (by rw [ec]; exact hK) ?_)
  refine And.intro hin (nm_r (e' := 2) (by rw [ec]; exact hM) ?_)
  refine And.intro hin (nm_r (e' := nI (wn % 256)) (by rw [ec]; exact hA) ?_)
  refine br_t (by decide) ?_
  refine xs_ea2 ea ?_
  refine br_t hs ?_
  refine br_t (by decide) ?_
  refine br_f (by decide) ?_
  iterate 5 refine br_f (by decide) ?_
  refine br_t (by decide) ?_
  refine And.intro (vp_in_nI (by omega) (by decide)) ?_
  refine nm_r (e' := (a_mem a + 1) &&& 65535) (by rw [nI_clamp (by omega)]) ?_
  refine xd_store hz (by omega) C ?_
  intro g' run' lf' bs' bc' br' lk' en' cv' C' D'
  have el : lf' = -1 := D'.2.2.1.elim id id
  subst el
  refine KD (fg_zn y_fl ((a_mem a + 1) &&& 65535)) (nI (pa + 1)) y_inp y_outp g' _ _ _ _ _ _ _ _ _ _ _ _ _ _ _ _ _ _ _ _ _ _ _ _ _ _ _ ?_ C' D' ?_ ?_
  · exact ⟨wA, wX, wS, ab_Wup wM (ab_Wand _), by rw [hF]; exact fg_znF, hI, hO⟩
  · exact Or.inl ⟨rfl, rfl, rfl, by omega⟩
  · intro pY h
    refine yt_addr hw (O := 36) (by rw [ho]; rfl) (by omega) hs (fun P hP => ya_36 ea hP) ?_
    refine y5_36 (by omega) hs ?_
    exact h
theorem sc_36 (hz32 : 32 ≤ sz) (hz : sz ≤ 256) (hr : r < 8) (hi : idx < 128) (hpa : pa < sz) (hw : wn < 65536) (G : sp_G f_regA f_regX f_regS y_fl f_flagBits f_znPending f_znResult f_cvKind f_cvLeft f_cvRight f_cvWide f_inHead f_inSize f_outHead f_outSize a_mem a_inQueue a_outQueue y_inp y_outp) (C : ca_CI sz g a_mem a_marks a_blockStart a_blockCount a_links a_entry a_cover a_opKind a_opMode a_opArg) (ho : wn / 256 = 36) (hK : a_opKind idx = 35) (hM : a_opMode idx = 2) (hA : a_opArg idx = nI (wn % 256)) (KD : sp_KD post sz r idx pa wn g y_ex y_fl y_scr y_vc y_inp y_outp f_size f_executedCount f_regA f_regX f_regS f_pc f_flagBits f_znPending f_znResult f_cvKind f_cvLeft f_cvRight f_cvWide f_inHead f_inSize f_outHead f_outSize f_lastCode f_lastDetail f_cacheLimit f_lengthLimit f_hand f_running f_linkFrom f_exitKind f_controlDone f_trapCode f_trapDetail a_mem a_marks a_visitCount a_inQueue a_outQueue a_blockStart a_blockCount a_blockRecent a_links a_entry a_cover a_opKind a_opMode a_opArg) (KT : sp_KT post sz r pa wn y_ex y_fl y_scr y_vc y_inp y_outp f_size f_executedCount f_regA f_regX f_regS f_pc f_flagBits f_znPending f_znResult f_cvKind f_cvLeft f_cvRight f_cvWide f_inHead f_inSize f_outHead f_outSize f_lastCode f_lastDetail f_cacheLimit f_lengthLimit f_hand f_running f_linkFrom f_exitKind f_controlDone f_trapCode f_trapDetail a_mem a_marks a_visitCount a_inQueue a_outQueue a_blockStart a_blockCount a_blockRecent a_links a_entry a_cover a_opKind a_opMode a_opArg) : wpX_step post (nI sz, f_executedCount, f_regA, f_regX, f_regS, f_pc, f_flagBits, f_znPending, f_znResult, f_cvKind, f_cvLeft, f_cvRight, f_cvWide, f_inHead, f_inSize, f_outHead, f_outSize, f_lastCode, f_lastDetail, f_cacheLimit, f_lengthLimit, f_hand, nI r, -1, 0, 0, 0, 0, a_mem, a_marks, a_visitCount, a_inQueue, a_outQueue, a_blockStart, a_blockCount, a_blockRecent, a_links, a_entry, a_cover, a_opKind, a_opMode, a_opArg) (nI idx) (nI pa) := by
  obtain ⟨a, ha, ea⟩ := ab_Wand (nI (wn % 256) + f_regX)
  by_cases hlt : a < sz
  · exact sc_36i hz32 hz hr hi hpa hw G C ho hK hM hA ea hlt KD
  · have hs : ¬ nI a < nI sz := nI_nlt (by omega) (by omega)
    refine xk_A2 hi hK hM hA (by decide) ea hs ?_
    refine KT 9 _ (by decide) ?_
    intro pY h
    refine yt_trap hw (O := 36) (by rw [ho]; rfl) hs (fun P hP => ya_36 ea hP) ?_
    exact h
theorem sc_37i (hz32 : 32 ≤ sz) (hz : sz ≤ 256) (hr : r < 8) (hi : idx < 128) (hpa : pa < sz) (hw : wn < 65536) (G : sp_G f_regA f_regX f_regS y_fl f_flagBits f_znPending f_znResult f_cvKind f_cvLeft f_cvRight f_cvWide f_inHead f_inSize f_outHead f_outSize a_mem a_inQueue a_outQueue y_inp y_outp) (C : ca_CI sz g a_mem a_marks a_blockStart a_blockCount a_links a_entry a_cover a_opKind a_opMode a_opArg) (ho : wn / 256 = 37) (hK : a_opKind idx = 37) (hM : a_opMode idx = 4) (hA : a_opArg idx = nI (wn % 256)) {a : Nat} (ea : (f_regS - 1) &&& 65535 = nI a) (hlt : a < sz) (KD : sp_KD post sz r idx pa wn g y_ex y_fl y_scr y_vc y_inp y_outp f_size f_executedCount f_regA f_regX f_regS f_pc f_flagBits f_znPending f_znResult f_cvKind f_cvLeft f_cvRight f_cvWide f_inHead f_inSize f_outHead f_outSize f_lastCode f_lastDetail f_cacheLimit f_lengthLimit f_hand f_running f_linkFrom f_exitKind f_controlDone f_trapCode f_trapDetail a_mem a_marks a_visitCount a_inQueue a_outQueue a_blockStart a_blockCount a_blockRecent a_links a_entry a_cover a_opKind a_opMode a_opArg) : wpX_step post (nI sz, f_executedCount, f_regA, f_regX, f_regS, f_pc, f_flagBits, f_znPending, f_znResult, f_cvKind, f_cvLeft, f_cvRight, f_cvWide, f_inHead, f_inSize, f_outHead, f_outSize, f_lastCode, f_lastDetail, f_cacheLimit, f_lengthLimit, f_hand, nI r, -1, 0, 0, 0, 0, a_mem, a_marks, a_visitCount, a_inQueue, a_outQueue, a_blockStart, a_blockCount, a_blockRecent, a_links, a_entry, a_cover, a_opKind, a_opMode, a_opArg) (nI idx) (nI pa) := by
  obtain ⟨wA, wX, wS, wM, hF, hI, hO⟩ := G
  have hs : nI a < nI sz := nI_lt hlt (by omega)
  have hin : vp_in (nI idx) 128 := vp_in_nI hi (by decide)
  have ec : (nI idx).toNatClampNeg = idx := nI_clamp (by omega)
  refine And.intro hin (nm_r (e' := 37) (by rw [ec]; exact hK) ?_)
  refine And.intro hin (nm_r (e' := 4) (by rw [ec]; exact hM) ?_)
  refine And.intro hin (nm_r (e' := nI (wn % 256)) (by rw [ec]; exact hA) ?_)
  refine br_t (by decide) ?_
  refine xs_ea4 ea ?_
  refine br_t hs ?_
  refine br_t (by decide) ?_
  refine br_f (by decide) ?_
  iterate 7 refine br_f (by decide) ?_
  refine br_t (by decide) ?_
  refine xd_store hz (by omega) C ?_
  intro g' run' lf' bs' bc' br' lk' en' cv' C' D'
  have el : lf' = -1 := D'.2.2.1.elim id id
  subst el
  refine KD y_fl (nI (pa + 1)) y_inp y_outp g' _ _ _ _ _ _ _ _ _ _ _ _ _ _ _ _ _ _ _ _ _ _ _ _ _ _ _ ?_ C' D' ?_ ?_
  · exact ⟨wA, wX, ab_Wn (by omega), ab_Wup wM wA, hF, hI, hO⟩
  · exact Or.inl ⟨rfl, rfl, rfl, by omega⟩
  · intro pY h
    refine yt_addr hw (O := 37) (by rw [ho]; rfl) (by omega) hs (fun P hP => ya_37 ea hP) ?_
    refine y5_37 (by omega) hs ?_
    exact h
theorem sc_37 (hz32 : 32 ≤ sz) (hz : sz ≤ 256) (hr : r < 8) (hi : idx < 128) (hpa : pa < sz) (hw : wn < 65536) (G : sp_G f_regA f_regX f_regS y_fl f_flagBits f_znPending f_znResult f_cvKind f_cvLeft f_cvRight f_cvWide f_inHead f_inSize f_outHead f_outSize a_mem a_inQueue a_outQueue y_inp y_outp) (C : ca_CI sz g a_mem a_marks a_blockStart a_blockCount a_links a_entry a_cover a_opKind a_opMode a_opArg) (ho : wn / 256 = 37) (hK : a_opKind idx = 37) (hM : a_opMode idx = 4) (hA : a_opArg idx = nI (wn % 256)) (KD : sp_KD post sz r idx pa wn g y_ex y_fl y_scr y_vc y_inp y_outp f_size f_executedCount f_regA f_regX f_regS f_pc f_flagBits f_znPending f_znResult f_cvKind f_cvLeft f_cvRight f_cvWide f_inHead f_inSize f_outHead f_outSize f_lastCode f_lastDetail f_cacheLimit f_lengthLimit f_hand f_running f_linkFrom f_exitKind f_controlDone f_trapCode f_trapDetail a_mem a_marks a_visitCount a_inQueue a_outQueue a_blockStart a_blockCount a_blockRecent a_links a_entry a_cover a_opKind a_opMode a_opArg) (KT : sp_KT post sz r pa wn y_ex y_fl y_scr y_vc y_inp y_outp f_size f_executedCount f_regA f_regX f_regS f_pc f_flagBits f_znPending f_znResult f_cvKind f_cvLeft f_cvRight f_cvWide f_inHead f_inSize f_outHead f_outSize f_lastCode f_lastDetail f_cacheLimit f_lengthLimit f_hand f_running f_linkFrom f_exitKind f_controlDone f_trapCode f_trapDetail a_mem a_marks a_visitCount a_inQueue a_outQueue a_blockStart a_blockCount a_blockRecent a_links a_entry a_cover a_opKind a_opMode a_opArg) : wpX_step post (nI sz, f_executedCount, f_regA, f_regX, f_regS, f_pc, f_flagBits, f_znPending, f_znResult, f_cvKind, f_cvLeft, f_cvRight, f_cvWide, f_inHead, f_inSize, f_outHead, f_outSize, f_lastCode, f_lastDetail, f_cacheLimit, f_lengthLimit, f_hand, nI r, -1, 0, 0, 0, 0, a_mem, a_marks, a_visitCount, a_inQueue, a_outQueue, a_blockStart, a_blockCount, a_blockRecent, a_links, a_entry, a_cover, a_opKind, a_opMode, a_opArg) (nI idx) (nI pa) := by
  obtain ⟨a, ha, ea⟩ := ab_Wand (f_regS - 1)
  by_cases hlt : a < sz
  · exact sc_37i hz32 hz hr hi hpa hw G C ho hK hM hA ea hlt KD
  · have hs : ¬ nI a < nI sz := nI_nlt (by omega) (by omega)
    refine xk_A4 hi hK hM hA (by decide) ea hs ?_
    refine KT 9 _ (by decide) ?_
    intro pY h
    refine yt_trap hw (O := 37) (by rw [ho]; rfl) hs (fun P hP => ya_37 ea hP) ?_
    exact h
theorem sc_39i (hz32 : 32 ≤ sz) (hz : sz ≤ 256) (hr : r < 8) (hi : idx < 128) (hpa : pa < sz) (hw : wn < 65536) (G : sp_G f_regA f_regX f_regS y_fl f_flagBits f_znPending f_znResult f_cvKind f_cvLeft f_cvRight f_cvWide f_inHead f_inSize f_outHead f_outSize a_mem a_inQueue a_outQueue y_inp y_outp) (C : ca_CI sz g a_mem a_marks a_blockStart a_blockCount a_links a_entry a_cover a_opKind a_opMode a_opArg) (ho : wn / 256 = 39) (hK : a_opKind idx = 39) (hM : a_opMode idx = 4) (hA : a_opArg idx = nI (wn % 256)) {a : Nat} (ea : (f_regS - 1) &&& 65535 = nI a) (hlt : a < sz) (KD : sp_KD post sz r idx pa wn g y_ex y_fl y_scr y_vc y_inp y_outp f_size f_executedCount f_regA f_regX f_regS f_pc f_flagBits f_znPending f_znResult f_cvKind f_cvLeft f_cvRight f_cvWide f_inHead f_inSize f_outHead f_outSize f_lastCode f_lastDetail f_cacheLimit f_lengthLimit f_hand f_running f_linkFrom f_exitKind f_controlDone f_trapCode f_trapDetail a_mem a_marks a_visitCount a_inQueue a_outQueue a_blockStart a_blockCount a_blockRecent a_links a_entry a_cover a_opKind a_opMode a_opArg) : wpX_step post (nI sz, f_executedCount, f_regA, f_regX, f_regS, f_pc, f_flagBits, f_znPending, f_znResult, f_cvKind, f_cvLeft, f_cvRight, f_cvWide, f_inHead, f_inSize, f_outHead, f_outSize, f_lastCode, f_lastDetail, f_cacheLimit, f_lengthLimit, f_hand, nI r, -1, 0, 0, 0, 0, a_mem, a_marks, a_visitCount, a_inQueue, a_outQueue, a_blockStart, a_blockCount, a_blockRecent, a_links, a_entry, a_cover, a_opKind, a_opMode, a_opArg) (nI idx) (nI pa) := by
  obtain ⟨wA, wX, wS, wM, hF, hI, hO⟩ := G
  have hs : nI a < nI sz := nI_lt hlt (by omega)
  have hin : vp_in (nI idx) 128 := vp_in_nI hi (by decide)
  have ec : (nI idx).toNatClampNeg = idx := nI_clamp (by omega)
  refine And.intro hin (nm_r (e' := 39) (by rw [ec]; exact hK) ?_)
  refine And.intro hin (nm_r (e' := 4) (by rw [ec]; exact hM) ?_)
  refine And.intro hin (nm_r (e' := nI (wn % 256)) (by rw [ec]; exact hA) ?_)
  refine br_t (by decide) ?_
  refine xs_ea4 ea ?_
  refine br_t hs ?_
  refine br_t (by decide) ?_
  refine br_f (by decide) ?_
  iterate 9 refine br_f (by decide) ?_
  refine br_t (by decide) ?_
  refine xs_currentFlags ?_
  rw [← hF]
  refine xd_store hz (by omega) C ?_
  intro g' run' lf' bs' bc' br' lk' en' cv' C' D'
  have el : lf' = -1 := D'.2.2.1.elim id id
  subst el
  refine KD y_fl (nI (pa + 1)) y_inp y_outp g' _ _ _ _ _ _ _ _ _ _ _ _ _ _ _ _ _ _ _ _ _ _ _ _ _ _ _ ?_ C' D' ?_ ?_
  · exact ⟨wA, wX, ab_Wn (by omega), ab_Wup wM (by rw [hF]; exact fg_FW), hF, hI, hO⟩
  · exact Or.inl ⟨rfl, rfl, rfl, by omega⟩
  · intro pY h
    refine yt_addr hw (O := 39) (by rw [ho]; rfl) (by omega) hs (fun P hP => ya_39 ea hP) ?_
    refine y5_39 (by omega) hs ?_
    exact h
theorem sc_39 (hz32 : 32 ≤ sz) (hz : sz ≤ 256) (hr : r < 8) (hi : idx < 128) (hpa : pa < sz) (hw : wn < 65536) (G : sp_G f_regA f_regX f_regS y_fl f_flagBits f_znPending f_znResult f_cvKind f_cvLeft f_cvRight f_cvWide f_inHead f_inSize f_outHead f_outSize a_mem a_inQueue a_outQueue y_inp y_outp) (C : ca_CI sz g a_mem a_marks a_blockStart a_blockCount a_links a_entry a_cover a_opKind a_opMode a_opArg) (ho : wn / 256 = 39) (hK : a_opKind idx = 39) (hM : a_opMode idx = 4) (hA : a_opArg idx = nI (wn % 256)) (KD : sp_KD post sz r idx pa wn g y_ex y_fl y_scr y_vc y_inp y_outp f_size f_executedCount f_regA f_regX f_regS f_pc f_flagBits f_znPending f_znResult f_cvKind f_cvLeft f_cvRight f_cvWide f_inHead f_inSize f_outHead f_outSize f_lastCode f_lastDetail f_cacheLimit f_lengthLimit f_hand f_running f_linkFrom f_exitKind f_controlDone f_trapCode f_trapDetail a_mem a_marks a_visitCount a_inQueue a_outQueue a_blockStart a_blockCount a_blockRecent a_links a_entry a_cover a_opKind a_opMode a_opArg) (KT : sp_KT post sz r pa wn y_ex y_fl y_scr y_vc y_inp y_outp f_size f_executedCount f_regA f_regX f_regS f_pc f_flagBits f_znPending f_znResult f_cvKind f_cvLeft f_cvRight f_cvWide f_inHead f_inSize f_outHead f_outSize f_lastCode f_lastDetail f_cacheLimit f_lengthLimit f_hand f_running f_linkFrom f_exitKind f_controlDone f_trapCode f_trapDetail a_mem a_marks a_visitCount a_inQueue a_outQueue a_blockStart a_blockCount a_blockRecent a_links a_entry a_cover a_opKind a_opMode a_opArg) : wpX_step post (nI sz, f_executedCount, f_regA, f_regX, f_regS, f_pc, f_flagBits, f_znPending, f_znResult, f_cvKind, f_cvLeft, f_cvRight, f_cvWide, f_inHead, f_inSize, f_outHead, f_outSize, f_lastCode, f_lastDetail, f_cacheLimit, f_lengthLimit, f_hand, nI r, -1, 0, 0, 0, 0, a_mem, a_marks, a_visitCount, a_inQueue, a_outQueue, a_blockStart, a_blockCount, a_blockRecent, a_links, a_entry, a_cover, a_opKind, a_opMode, a_opArg) (nI idx) (nI pa) := by
  obtain ⟨a, ha, ea⟩ := ab_Wand (f_regS - 1)
  by_cases hlt : a < sz
  · exact sc_39i hz32 hz hr hi hpa hw G C ho hK hM hA ea hlt KD
  · have hs : ¬ nI a < nI sz := nI_nlt (by omega) (by omega)
    refine xk_A4 hi hK hM hA (by decide) ea hs ?_
    refine KT 9 _ (by decide) ?_
    intro pY h
    refine yt_trap hw (O := 39) (by rw [ho]; rfl) hs (fun P hP => ya_39 ea hP) ?_
    exact h
theorem sc_18i (hz32 : 32 ≤ sz) (hz : sz ≤ 256) (hr : r < 8) (hi : idx < 128) (hpa : pa < sz) (hw : wn < 65536) (G : sp_G f_regA f_regX f_regS y_fl f_flagBits f_znPending f_znResult f_cvKind f_cvLeft f_cvRight f_cvWide f_inHead f_inSize f_outHead f_outSize a_mem a_inQueue a_outQueue y_inp y_outp) (C : ca_CI sz g a_mem a_marks a_blockStart a_blockCount a_links a_entry a_cover a_opKind a_opMode a_opArg) (ho : wn / 256 = 18) (hK : a_opKind idx = 18) (hM : a_opMode idx = 4) (hA : a_opArg idx = nI (wn % 256)) {a : Nat} (ea : (f_regS - 1) &&& 65535 = nI a) (hlt : a < sz) (KD : sp_KD post sz r idx pa wn g y_ex y_fl y_scr y_vc y_inp y_outp f_size f_executedCount f_regA f_regX f_regS f_pc f_flagBits f_znPending f_znResult f_cvKind f_cvLeft f_cvRight f_cvWide f_inHead f_inSize f_outHead f_outSize f_lastCode f_lastDetail f_cacheLimit f_lengthLimit f_hand f_running f_linkFrom f_exitKind f_controlDone f_trapCode f_trapDetail a_mem a_marks a_visitCount a_inQueue a_outQueue a_blockStart a_blockCount a_blockRecent a_links a_entry a_cover a_opKind a_opMode a_opArg) : wpX_step post (nI sz, f_executedCount, f_regA, f_regX, f_regS, f_pc, f_flagBits, f_znPending, f_znResult, f_cvKind, f_cvLeft, f_cvRight, f_cvWide, f_inHead, f_inSize, f_outHead, f_outSize, f_lastCode, f_lastDetail, f_cacheLimit, f_lengthLimit, f_hand, nI r, -1, 0, 0, 0, 0, a_mem, a_marks, a_visitCount, a_inQueue, a_outQueue, a_blockStart, a_blockCount, a_blockRecent, a_links, a_entry, a_cover, a_opKind, a_opMode, a_opArg) (nI idx) (nI pa) := by
  obtain ⟨wA, wX, wS, wM, hF, hI, hO⟩ := G
  have hs : nI a < nI sz := nI_lt hlt (by omega)
  have hin : vp_in (nI idx) 128 := vp_in_nI hi (by decide)
  have ec : (nI idx).toNatClampNeg = idx := nI_clamp (by omega)
  refine And.intro hin (nm_r (e' := 18) (by rw [ec]; exact hK) ?_)
  refine And.intro hin (nm_r (e' := 4) (by rw [ec]; exact hM) ?_)
  refine And.intro hin (nm_r (e' := nI (wn % 256)) (by rw [ec]; exact hA) ?_)
  refine br_t (by decide) ?_
  refine xs_ea4 ea ?_
  refine br_t hs ?_
  refine br_t (by decide) ?_
  refine br_t (by decide) ?_
  refine br_f (by decide) ?_
  iterate 4 refine br_f (by decide) ?_
  refine br_t (by decide) ?_
  rw [nI_1]
  refine xd_store hz (by omega) C ?_
  intro g' run' lf' bs' bc' br' lk' en' cv' C' D'
  have el : lf' = -1 := D'.2.2.1.elim id id
  subst el
  refine KD y_fl (nI (wn % 256)) y_inp y_outp g' _ _ _ _ _ _ _ _ _ _ _ _ _ _ _ _ _ _ _ _ _ _ _ _ _ _ _ ?_ C' D' ?_ ?_
  · exact ⟨wA, wX, ab_Wn (by omega), ab_Wup wM (ab_Wn (by omega)), hF, hI, hO⟩
  · exact Or.inr ⟨rfl, rfl, ab_Wn (by omega), by omega, Or.inr (Or.inr ⟨rfl, hA.symm⟩)⟩
  · intro pY h
    refine yt_addr hw (O := 18) (by rw [ho]; rfl) (by omega) hs (fun P hP => ya_18 ea hP) ?_
    refine y5_18 (by omega) hs ?_
    exact h
theorem sc_18 (hz32 : 32 ≤ sz) (hz : sz ≤ 256) (hr : r < 8) (hi : idx < 128) (hpa : pa < sz) (hw : wn < 65536) (G : sp_G f_regA f_regX f_regS y_fl f_flagBits f_znPending f_znResult f_cvKind f_cvLeft f_cvRight f_cvWide f_inHead f_inSize f_outHead f_outSize a_mem a_inQueue a_outQueue y_inp y_outp) (C : ca_CI sz g a_mem a_marks a_blockStart a_blockCount a_links a_entry a_cover a_opKind a_opMode a_opArg) (ho : wn / 256 = 18) (hK : a_opKind idx = 18) (hM : a_opMode idx = 4) (hA : a_opArg idx = nI (wn % 256)) (KD : sp_KD post sz r idx pa wn g y_ex y_fl y_scr y_vc y_inp y_outp f_size f_executedCount f_regA f_regX f_regS f_pc f_flagBits f_znPending f_znResult f_cvKind f_cvLeft f_cvRight f_cvWide f_inHead f_inSize f_outHead f_outSize f_lastCode f_lastDetail f_cacheLimit f_lengthLimit f_hand f_running f_linkFrom f_exitKind f_controlDone f_trapCode f_trapDetail a_mem a_marks a_visitCount a_inQueue a_outQueue a_blockStart a_blockCount a_blockRecent a_links a_entry a_cover a_opKind a_opMode a_opArg) (KT : sp_KT post sz r pa wn y_ex y_fl y_scr y_vc y_inp y_outp f_size f_executedCount f_regA f_regX f_regS f_pc f_flagBits f_znPending f_znResult f_cvKind f_cvLeft f_cvRight f_cvWide f_inHead f_inSize f_outHead f_outSize f_lastCode f_lastDetail f_cacheLimit f_lengthLimit f_hand f_running f_linkFrom f_exitKind f_controlDone f_trapCode f_trapDetail a_mem a_marks a_visitCount a_inQueue a_outQueue a_blockStart a_blockCount a_blockRecent a_links a_entry a_cover a_opKind a_opMode a_opArg) : wpX_step post (nI sz, f_executedCount, f_regA, f_regX, f_regS, f_pc, f_flagBits, f_znPending, f_znResult, f_cvKind, f_cvLeft, f_cvRight, f_cvWide, f_inHead, f_inSize, f_outHead, f_outSize, f_lastCode, f_lastDetail, f_cacheLimit, f_lengthLimit, f_hand, nI r, -1, 0, 0, 0, 0, a_mem, a_marks, a_visitCount, a_inQueue, a_outQueue, a_blockStart, a_blockCount, a_blockRecent, a_links, a_entry, a_cover, a_opKind, a_opMode, a_opArg) (nI idx) (nI pa) := by
  obtain ⟨a, ha, ea⟩ := ab_Wand (f_regS - 1)
  by_cases hlt : a < sz
  · exact sc_18i hz32 hz hr hi hpa hw G C ho hK hM hA ea hlt KD
  · have hs : ¬ nI a < nI sz := nI_nlt (by omega) (by omega)
    refine xk_A4 hi hK hM hA (by decide) ea hs ?_
    refine KT 9 _ (by decide) ?_
    intro pY h
    refine yt_trap hw (O := 18) (by rw [ho]; rfl) hs (fun P hP => ya_18 ea hP) ?_
    exact h
end SP
end
section
/-! the step, in lockstep (printed by gen12.py) -/
section SP
variable {f_size f_executedCount f_regA f_regX f_regS f_pc f_flagBits f_znPending f_znResult f_cvKind f_cvLeft f_cvRight f_cvWide f_inHead f_inSize f_outHead f_outSize f_lastCode f_lastDetail f_cacheLimit f_lengthLimit f_hand f_running f_linkFrom f_exitKind f_controlDone f_trapCode f_trapDetail : Int32} {a_mem a_marks a_visitCount a_inQueue a_outQueue a_blockStart a_blockCount a_blockRecent a_links a_entry a_cover a_opKind a_opMode a_opArg : Nat → Int32}
variable {y_fl : Int32} {y_scr y_inp y_outp : Nat → Int32}
variable {y_ex : Int32} {y_vc : Nat → Int32} {post : Int32 → SX → Prop} {sz r idx pa wn : Nat} {g : Nat → Option (Nat × Nat)}
theorem sp_div {x v : Int32} (hx : ab_W x) (hv : ab_W v) (h0 : ¬ v = 0) : ab_W (x / v) := by
  obtain ⟨n, hn, rfl⟩ := hx
  obtain ⟨d, hd, rfl⟩ := hv
  have h1 : d ≠ 0 := fun e => h0 (by rw [e]; rfl)
  exact ⟨n / d, Nat.lt_of_le_of_lt (Nat.div_le_self n d) hn, pk_div (by omega) (by omega) (by omega)⟩
theorem sp_rem {x v : Int32} (hx : ab_W x) (hv : ab_W v) (h0 : ¬ v = 0) : ab_W (x - x / v * v) := by
  obtain ⟨n, hn, rfl⟩ := hx
  obtain ⟨d, hd, rfl⟩ := hv
  have h1 : d ≠ 0 := fun e => h0 (by rw [e]; rfl)
  exact ⟨n % d, Nat.lt_of_le_of_lt (Nat.mod_le n d) hn, pk_rem (by omega) (by omega) (by omega)⟩
theorem so_0 (hz32 : 32 ≤ sz) (hz : sz ≤ 256) (hr : r < 8) (hi : idx < 128) (hpa : pa < sz) (hw : wn < 65536) (G : sp_G f_regA f_regX f_regS y_fl f_flagBits f_znPending f_znResult f_cvKind f_cvLeft f_cvRight f_cvWide f_inHead f_inSize f_outHead f_outSize a_mem a_inQueue a_outQueue y_inp y_outp) (C : ca_CI sz g a_mem a_marks a_blockStart a_blockCount a_links a_entry a_cover a_opKind a_opMode a_opArg) {m v e x5 x6 : Int32} (h64 : 64 ≤ wn / 256) (h107 : wn / 256 ≤ 107) (hf : (wn / 256 - 64) / 4 = 0) (hK : a_opKind idx = 64) (hM : a_opMode idx = m) (hA : a_opArg idx = nI (wn % 256)) (hea : ∀ P : Int32 → Prop, P e → wpX_effectiveAddress P (nI sz, f_executedCount, f_regA, f_regX, f_regS, f_pc, f_flagBits, f_znPending, f_znResult, f_cvKind, f_cvLeft, f_cvRight, f_cvWide, f_inHead, f_inSize, f_outHead, f_outSize, f_lastCode, f_lastDetail, f_cacheLimit, f_lengthLimit, f_hand, nI r, -1, 0, 0, 0, 0, a_mem, a_marks, a_visitCount, a_inQueue, a_outQueue, a_blockStart, a_blockCount, a_blockRecent, a_links, a_entry, a_cover, a_opKind, a_opMode, a_opArg) m (nI (wn % 256))) (hs : e < nI sz) (hov : ∀ P : Int32 → Prop, P v → wpX_operandValue P (nI sz, f_executedCount, f_regA, f_regX, f_regS, f_pc, f_flagBits, f_znPending, f_znResult, f_cvKind, f_cvLeft, f_cvRight, f_cvWide, f_inHead, f_inSize, f_outHead, f_outSize, f_lastCode, f_lastDetail, f_cacheLimit, f_lengthLimit, f_hand, nI r, -1, 0, 0, 0, 0, a_mem, a_marks, a_visitCount, a_inQueue, a_outQueue, a_blockStart, a_blockCount, a_blockRecent, a_links, a_entry, a_cover, a_opKind, a_opMode, a_opArg) m (nI (wn % 256)) e) (hv : ab_W v) (hv0 : wn / 256 % 4 = 0 → v = nI (wn % 256)) (hv3 : wn / 256 % 4 = 3 → v = f_regX) (hv12 : wn / 256 % 4 = 1 ∨ wn / 256 % 4 = 2 → v = x6) (hY : ∀ pY : Int32 → SY → Prop, wY_step_56 pY (nI pa) (nI wn) (nI (wn / 256)) (nI (wn % 256)) x5 x6 f_inSize f_outSize (nI sz) f_regA f_regX f_regS (nI pa) y_fl y_ex f_lastCode f_lastDetail a_mem y_scr y_vc a_marks y_inp y_outp → wpY_step pY (f_inSize, f_outSize, nI sz, f_regA, f_regX, f_regS, nI pa, y_fl, y_ex, f_lastCode, f_lastDetail, a_mem, y_scr, y_vc, a_marks, y_inp, y_outp) (nI pa) (nI wn)) (KD : sp_KD post sz r idx pa wn g y_ex y_fl y_scr y_vc y_inp y_outp f_size f_executedCount f_regA f_regX f_regS f_pc f_flagBits f_znPending f_znResult f_cvKind f_cvLeft f_cvRight f_cvWide f_inHead f_inSize f_outHead f_outSize f_lastCode f_lastDetail f_cacheLimit f_lengthLimit f_hand f_running f_linkFrom f_exitKind f_controlDone f_trapCode f_trapDetail a_mem a_marks a_visitCount a_inQueue a_outQueue a_blockStart a_blockCount a_blockRecent a_links a_entry a_cover a_opKind a_opMode a_opArg)  : wpX_step post (nI sz, f_executedCount, f_regA, f_regX, f_regS, f_pc, f_flagBits, f_znPending, f_znResult, f_cvKind, f_cvLeft, f_cvRight, f_cvWide, f_inHead, f_inSize, f_outHead, f_outSize, f_lastCode, f_lastDetail, f_cacheLimit, f_lengthLimit, f_hand, nI r, -1, 0, 0, 0, 0, a_mem, a_marks, a_visitCount, a_inQueue, a_outQueue, a_blockStart, a_blockCount, a_blockRecent, a_links, a_entry, a_cover, a_opKind, a_opMode, a_opArg) (nI idx) (nI pa) := by
  obtain ⟨wA, wX, wS, wM, hF, hI, hO⟩ := G
  refine xq_0 hi hK hM hA hea hs hov  ?_
  refine KD (fg_zn y_fl v) (nI (pa + 1)) y_inp y_outp g _ _ _ _ _ _ _ _ _ _ _ _ _ _ _ _ _ _ _ _ _ _ _ _ _ _ _ ?_ C ca_DRr ?_ ?_
  · exact ⟨hv, wX, wS, wM, by rw [hF]; exact fg_znF, hI, hO⟩
  · exact Or.inl ⟨rfl, rfl, rfl, by omega⟩
  · intro pY h
    refine hY pY ?_
    refine yq_0 (c := fg_cb f_flagBits f_cvKind f_cvWide) h64 h107 hf (v := v) hv0 hv3 hv12 (fg_cbB _ _ _) (sp_hc (fg_zbB _ _ _) (fg_nbB _ _ _) (fg_cbB _ _ _) (fg_vbB _ _ _ _ _) hF) ?_
    exact h
theorem so_1 (hz32 : 32 ≤ sz) (hz : sz ≤ 256) (hr : r < 8) (hi : idx < 128) (hpa : pa < sz) (hw : wn < 65536) (G : sp_G f_regA f_regX f_regS y_fl f_flagBits f_znPending f_znResult f_cvKind f_cvLeft f_cvRight f_cvWide f_inHead f_inSize f_outHead f_outSize a_mem a_inQueue a_outQueue y_inp y_outp) (C : ca_CI sz g a_mem a_marks a_blockStart a_blockCount a_links a_entry a_cover a_opKind a_opMode a_opArg) {m v e x5 x6 : Int32} (h64 : 64 ≤ wn / 256) (h107 : wn / 256 ≤ 107) (hf : (wn / 256 - 64) / 4 = 1) (hK : a_opKind idx = 65) (hM : a_opMode idx = m) (hA : a_opArg idx = nI (wn % 256)) (hea : ∀ P : Int32 → Prop, P e → wpX_effectiveAddress P (nI sz, f_executedCount, f_regA, f_regX, f_regS, f_pc, f_flagBits, f_znPending, f_znResult, f_cvKind, f_cvLeft, f_cvRight, f_cvWide, f_inHead, f_inSize, f_outHead, f_outSize, f_lastCode, f_lastDetail, f_cacheLimit, f_lengthLimit, f_hand, nI r, -1, 0, 0, 0, 0, a_mem, a_marks, a_visitCount, a_inQueue, a_outQueue, a_blockStart, a_blockCount, a_blockRecent, a_links, a_entry, a_cover, a_opKind, a_opMode, a_opArg) m (nI (wn % 256))) (hs : e < nI sz) (hov : ∀ P : Int32 → Prop, P v → wpX_operandValue P (nI sz, f_executedCount, f_regA, f_regX, f_regS, f_pc, f_flagBits, f_znPending, f_znResult, f_cvKind, f_cvLeft, f_cvRight, f_cvWide, f_inHead, f_inSize, f_outHead, f_outSize, f_lastCode, f_lastDetail, f_cacheLimit, f_lengthLimit, f_hand, nI r, -1, 0, 0, 0, 0, a_mem, a_marks, a_visitCount, a_inQueue, a_outQueue, a_blockStart, a_blockCount, a_blockRecent, a_links, a_entry, a_cover, a_opKind, a_opMode, a_opArg) m (nI (wn % 256)) e) (hv : ab_W v) (hv0 : wn / 256 % 4 = 0 → v = nI (wn % 256)) (hv3 : wn / 256 % 4 = 3 → v = f_regX) (hv12 : wn / 256 % 4 = 1 ∨ wn / 256 % 4 = 2 → v = x6) (hY : ∀ pY : Int32 → SY → Prop, wY_step_56 pY (nI pa) (nI wn) (nI (wn / 256)) (nI (wn % 256)) x5 x6 f_inSize f_outSize (nI sz) f_regA f_regX f_regS (nI pa) y_fl y_ex f_lastCode f_lastDetail a_mem y_scr y_vc a_marks y_inp y_outp → wpY_step pY (f_inSize, f_outSize, nI sz, f_regA, f_regX, f_regS, nI pa, y_fl, y_ex, f_lastCode, f_lastDetail, a_mem, y_scr, y_vc, a_marks, y_inp, y_outp) (nI pa) (nI wn)) (KD : sp_KD post sz r idx pa wn g y_ex y_fl y_scr y_vc y_inp y_outp f_size f_executedCount f_regA f_regX f_regS f_pc f_flagBits f_znPending f_znResult f_cvKind f_cvLeft f_cvRight f_cvWide f_inHead f_inSize f_outHead f_outSize f_lastCode f_lastDetail f_cacheLimit f_lengthLimit f_hand f_running f_linkFrom f_exitKind f_controlDone f_trapCode f_trapDetail a_mem a_marks a_visitCount a_inQueue a_outQueue a_blockStart a_blockCount a_blockRecent a_links a_entry a_cover a_opKind a_opMode a_opArg)  : wpX_step post (nI sz, f_executedCount, f_regA, f_regX, f_regS, f_pc, f_flagBits, f_znPending, f_znResult, f_cvKind, f_cvLeft, f_cvRight, f_cvWide, f_inHead, f_inSize, f_outHead, f_outSize, f_lastCode, f_lastDetail, f_cacheLimit, f_lengthLimit, f_hand, nI r, -1, 0, 0, 0, 0, a_mem, a_marks, a_visitCount, a_inQueue, a_outQueue, a_blockStart, a_blockCount, a_blockRecent, a_links, a_entry, a_cover, a_opKind, a_opMode, a_opArg) (nI idx) (nI pa) := by
  obtain ⟨wA, wX, wS, wM, hF, hI, hO⟩ := G
  refine xq_1 hi hK hM hA hea hs hov  ?_
  refine KD (fg_zn (fg_sf (fg_sf y_fl 4 (if f_regA + v + 0 ≤ 65535 then 0 else 1)) 8 (if (((f_regA ^^^ ((f_regA + v + 0) &&& 65535)) &&& (v ^^^ ((f_regA + v + 0) &&& 65535))) &&& 32768) = 0 then 0 else 1)) ((f_regA + v + 0) &&& 65535)) (nI (pa + 1)) y_inp y_outp g _ _ _ _ _ _ _ _ _ _ _ _ _ _ _ _ _ _ _ _ _ _ _ _ _ _ _ ?_ C ca_DRr ?_ ?_
  · exact ⟨ab_Wand _, wX, wS, wM, by rw [hF]; exact fg_add, hI, hO⟩
  · exact Or.inl ⟨rfl, rfl, rfl, by omega⟩
  · intro pY h
    refine hY pY ?_
    refine yq_1 (c := fg_cb f_flagBits f_cvKind f_cvWide) h64 h107 hf (v := v) hv0 hv3 hv12 (fg_cbB _ _ _) (sp_hc (fg_zbB _ _ _) (fg_nbB _ _ _) (fg_cbB _ _ _) (fg_vbB _ _ _ _ _) hF) ?_
    exact h
theorem so_2 (hz32 : 32 ≤ sz) (hz : sz ≤ 256) (hr : r < 8) (hi : idx < 128) (hpa : pa < sz) (hw : wn < 65536) (G : sp_G f_regA f_regX f_regS y_fl f_flagBits f_znPending f_znResult f_cvKind f_cvLeft f_cvRight f_cvWide f_inHead f_inSize f_outHead f_outSize a_mem a_inQueue a_outQueue y_inp y_outp) (C : ca_CI sz g a_mem a_marks a_blockStart a_blockCount a_links a_entry a_cover a_opKind a_opMode a_opArg) {m v e x5 x6 : Int32} (h64 : 64 ≤ wn / 256) (h107 : wn / 256 ≤ 107) (hf : (wn / 256 - 64) / 4 = 2) (hK : a_opKind idx = 66) (hM : a_opMode idx = m) (hA : a_opArg idx = nI (wn % 256)) (hea : ∀ P : Int32 → Prop, P e → wpX_effectiveAddress P (nI sz, f_executedCount, f_regA, f_regX, f_regS, f_pc, f_flagBits, f_znPending, f_znResult, f_cvKind, f_cvLeft, f_cvRight, f_cvWide, f_inHead, f_inSize, f_outHead, f_outSize, f_lastCode, f_lastDetail, f_cacheLimit, f_lengthLimit, f_hand, nI r, -1, 0, 0, 0, 0, a_mem, a_marks, a_visitCount, a_inQueue, a_outQueue, a_blockStart, a_blockCount, a_blockRecent, a_links, a_entry, a_cover, a_opKind, a_opMode, a_opArg) m (nI (wn % 256))) (hs : e < nI sz) (hov : ∀ P : Int32 → Prop, P v → wpX_operandValue P (nI sz, f_executedCount, f_regA, f_regX, f_regS, f_pc, f_flagBits, f_znPending, f_znResult, f_cvKind, f_cvLeft, f_cvRight, f_cvWide, f_inHead, f_inSize, f_outHead, f_outSize, f_lastCode, f_lastDetail, f_cacheLimit, f_lengthLimit, f_hand, nI r, -1, 0, 0, 0, 0, a_mem, a_marks, a_visitCount, a_inQueue, a_outQueue, a_blockStart, a_blockCount, a_blockRecent, a_links, a_entry, a_cover, a_opKind, a_opMode, a_opArg) m (nI (wn % 256)) e) (hv : ab_W v) (hv0 : wn / 256 % 4 = 0 → v = nI (wn % 256)) (hv3 : wn / 256 % 4 = 3 → v = f_regX) (hv12 : wn / 256 % 4 = 1 ∨ wn / 256 % 4 = 2 → v = x6) (hY : ∀ pY : Int32 → SY → Prop, wY_step_56 pY (nI pa) (nI wn) (nI (wn / 256)) (nI (wn % 256)) x5 x6 f_inSize f_outSize (nI sz) f_regA f_regX f_regS (nI pa) y_fl y_ex f_lastCode f_lastDetail a_mem y_scr y_vc a_marks y_inp y_outp → wpY_step pY (f_inSize, f_outSize, nI sz, f_regA, f_regX, f_regS, nI pa, y_fl, y_ex, f_lastCode, f_lastDetail, a_mem, y_scr, y_vc, a_marks, y_inp, y_outp) (nI pa) (nI wn)) (KD : sp_KD post sz r idx pa wn g y_ex y_fl y_scr y_vc y_inp y_outp f_size f_executedCount f_regA f_regX f_regS f_pc f_flagBits f_znPending f_znResult f_cvKind f_cvLeft f_cvRight f_cvWide f_inHead f_inSize f_outHead f_outSize f_lastCode f_lastDetail f_cacheLimit f_lengthLimit f_hand f_running f_linkFrom f_exitKind f_controlDone f_trapCode f_trapDetail a_mem a_marks a_visitCount a_inQueue a_outQueue a_blockStart a_blockCount a_blockRecent a_links a_entry a_cover a_opKind a_opMode a_opArg)  : wpX_step post (nI sz, f_executedCount, f_regA, f_regX, f_regS, f_pc, f_flagBits, f_znPending, f_znResult, f_cvKind, f_cvLeft, f_cvRight, f_cvWide, f_inHead, f_inSize, f_outHead, f_outSize, f_lastCode, f_lastDetail, f_cacheLimit, f_lengthLimit, f_hand, nI r, -1, 0, 0, 0, 0, a_mem, a_marks, a_visitCount, a_inQueue, a_outQueue, a_blockStart, a_blockCount, a_blockRecent, a_links, a_entry, a_cover, a_opKind, a_opMode, a_opArg) (nI idx) (nI pa) := by
  obtain ⟨wA, wX, wS, wM, hF, hI, hO⟩ := G
  refine xq_2 hi hK hM hA hea hs hov (c := fg_cb f_flagBits f_cvKind f_cvWide) rfl ?_
  refine KD (fg_zn (fg_sf (fg_sf y_fl 4 (if f_regA + v + (fg_cb f_flagBits f_cvKind f_cvWide) ≤ 65535 then 0 else 1)) 8 (if (((f_regA ^^^ ((f_regA + v + (fg_cb f_flagBits f_cvKind f_cvWide)) &&& 65535)) &&& (v ^^^ ((f_regA + v + (fg_cb f_flagBits f_cvKind f_cvWide)) &&& 65535))) &&& 32768) = 0 then 0 else 1)) ((f_regA + v + (fg_cb f_flagBits f_cvKind f_cvWide)) &&& 65535)) (nI (pa + 1)) y_inp y_outp g _ _ _ _ _ _ _ _ _ _ _ _ _ _ _ _ _ _ _ _ _ _ _ _ _ _ _ ?_ C ca_DRr ?_ ?_
  · exact ⟨ab_Wand _, wX, wS, wM, by rw [hF]; exact fg_add, hI, hO⟩
  · exact Or.inl ⟨rfl, rfl, rfl, by omega⟩
  · intro pY h
    refine hY pY ?_
    refine yq_2 (c := fg_cb f_flagBits f_cvKind f_cvWide) h64 h107 hf (v := v) hv0 hv3 hv12 (fg_cbB _ _ _) (sp_hc (fg_zbB _ _ _) (fg_nbB _ _ _) (fg_cbB _ _ _) (fg_vbB _ _ _ _ _) hF) ?_
    exact h
theorem so_3 (hz32 : 32 ≤ sz) (hz : sz ≤ 256) (hr : r < 8) (hi : idx < 128) (hpa : pa < sz) (hw : wn < 65536) (G : sp_G f_regA f_regX f_regS y_fl f_flagBits f_znPending f_znResult f_cvKind f_cvLeft f_cvRight f_cvWide f_inHead f_inSize f_outHead f_outSize a_mem a_inQueue a_outQueue y_inp y_outp) (C : ca_CI sz g a_mem a_marks a_blockStart a_blockCount a_links a_entry a_cover a_opKind a_opMode a_opArg) {m v e x5 x6 : Int32} (h64 : 64 ≤ wn / 256) (h107 : wn / 256 ≤ 107) (hf : (wn / 256 - 64) / 4 = 3) (hK : a_opKind idx = 67) (hM : a_opMode idx = m) (hA : a_opArg idx = nI (wn % 256)) (hea : ∀ P : Int32 → Prop, P e → wpX_effectiveAddress P (nI sz, f_executedCount, f_regA, f_regX, f_regS, f_pc, f_flagBits, f_znPending, f_znResult, f_cvKind, f_cvLeft, f_cvRight, f_cvWide, f_inHead, f_inSize, f_outHead, f_outSize, f_lastCode, f_lastDetail, f_cacheLimit, f_lengthLimit, f_hand, nI r, -1, 0, 0, 0, 0, a_mem, a_marks, a_visitCount, a_inQueue, a_outQueue, a_blockStart, a_blockCount, a_blockRecent, a_links, a_entry, a_cover, a_opKind, a_opMode, a_opArg) m (nI (wn % 256))) (hs : e < nI sz) (hov : ∀ P : Int32 → Prop, P v → wpX_operandValue P (nI sz, f_executedCount, f_regA, f_regX, f_regS, f_pc, f_flagBits, f_znPending, f_znResult, f_cvKind, f_cvLeft, f_cvRight, f_cvWide, f_inHead, f_inSize, f_outHead, f_outSize, f_lastCode, f_lastDetail, f_cacheLimit, f_lengthLimit, f_hand, nI r, -1, 0, 0, 0, 0, a_mem, a_marks, a_visitCount, a_inQueue, a_outQueue, a_blockStart, a_blockCount, a_blockRecent, a_links, a_entry, a_cover, a_opKind, a_opMode, a_opArg) m (nI (wn % 256)) e) (hv : ab_W v) (hv0 : wn / 256 % 4 = 0 → v = nI (wn % 256)) (hv3 : wn / 256 % 4 = 3 → v = f_regX) (hv12 : wn / 256 % 4 = 1 ∨ wn / 256 % 4 = 2 → v = x6) (hY : ∀ pY : Int32 → SY → Prop, wY_step_56 pY (nI pa) (nI wn) (nI (wn / 256)) (nI (wn % 256)) x5 x6 f_inSize f_outSize (nI sz) f_regA f_regX f_regS (nI pa) y_fl y_ex f_lastCode f_lastDetail a_mem y_scr y_vc a_marks y_inp y_outp → wpY_step pY (f_inSize, f_outSize, nI sz, f_regA, f_regX, f_regS, nI pa, y_fl, y_ex, f_lastCode, f_lastDetail, a_mem, y_scr, y_vc, a_marks, y_inp, y_outp) (nI pa) (nI wn)) (KD : sp_KD post sz r idx pa wn g y_ex y_fl y_scr y_vc y_inp y_outp f_size f_executedCount f_regA f_regX f_regS f_pc f_flagBits f_znPending f_znResult f_cvKind f_cvLeft f_cvRight f_cvWide f_inHead f_inSize f_outHead f_outSize f_lastCode f_lastDetail f_cacheLimit f_lengthLimit f_hand f_running f_linkFrom f_exitKind f_controlDone f_trapCode f_trapDetail a_mem a_marks a_visitCount a_inQueue a_outQueue a_blockStart a_blockCount a_blockRecent a_links a_entry a_cover a_opKind a_opMode a_opArg)  : wpX_step post (nI sz, f_executedCount, f_regA, f_regX, f_regS, f_pc, f_flagBits, f_znPending, f_znResult, f_cvKind, f_cvLeft, f_cvRight, f_cvWide, f_inHead, f_inSize, f_outHead, f_outSize, f_lastCode, f_lastDetail, f_cacheLimit, f_lengthLimit, f_hand, nI r, -1, 0, 0, 0, 0, a_mem, a_marks, a_visitCount, a_inQueue, a_outQueue, a_blockStart, a_blockCount, a_blockRecent, a_links, a_entry, a_cover, a_opKind, a_opMode, a_opArg) (nI idx) (nI pa) := by
  obtain ⟨wA, wX, wS, wM, hF, hI, hO⟩ := G
  refine xq_3 hi hK hM hA hea hs hov  ?_
  refine KD (fg_zn (fg_sf (fg_sf y_fl 4 (if 0 ≤ f_regA - v - 0 then 0 else 1)) 8 (if (((f_regA ^^^ v) &&& (f_regA ^^^ ((f_regA - v - 0) &&& 65535))) &&& 32768) = 0 then 0 else 1)) ((f_regA - v - 0) &&& 65535)) (nI (pa + 1)) y_inp y_outp g _ _ _ _ _ _ _ _ _ _ _ _ _ _ _ _ _ _ _ _ _ _ _ _ _ _ _ ?_ C ca_DRr ?_ ?_
  · exact ⟨ab_Wand _, wX, wS, wM, by rw [hF]; exact fg_sub, hI, hO⟩
  · exact Or.inl ⟨rfl, rfl, rfl, by omega⟩
  · intro pY h
    refine hY pY ?_
    refine yq_3 (c := fg_cb f_flagBits f_cvKind f_cvWide) h64 h107 hf (v := v) hv0 hv3 hv12 (fg_cbB _ _ _) (sp_hc (fg_zbB _ _ _) (fg_nbB _ _ _) (fg_cbB _ _ _) (fg_vbB _ _ _ _ _) hF) ?_
    exact h
theorem so_4 (hz32 : 32 ≤ sz) (hz : sz ≤ 256) (hr : r < 8) (hi : idx < 128) (hpa : pa < sz) (hw : wn < 65536) (G : sp_G f_regA f_regX f_regS y_fl f_flagBits f_znPending f_znResult f_cvKind f_cvLeft f_cvRight f_cvWide f_inHead f_inSize f_outHead f_outSize a_mem a_inQueue a_outQueue y_inp y_outp) (C : ca_CI sz g a_mem a_marks a_blockStart a_blockCount a_links a_entry a_cover a_opKind a_opMode a_opArg) {m v e x5 x6 : Int32} (h64 : 64 ≤ wn / 256) (h107 : wn / 256 ≤ 107) (hf : (wn / 256 - 64) / 4 = 4) (hK : a_opKind idx = 68) (hM : a_opMode idx = m) (hA : a_opArg idx = nI (wn % 256)) (hea : ∀ P : Int32 → Prop, P e → wpX_effectiveAddress P (nI sz, f_executedCount, f_regA, f_regX, f_regS, f_pc, f_flagBits, f_znPending, f_znResult, f_cvKind, f_cvLeft, f_cvRight, f_cvWide, f_inHead, f_inSize, f_outHead, f_outSize, f_lastCode, f_lastDetail, f_cacheLimit, f_lengthLimit, f_hand, nI r, -1, 0, 0, 0, 0, a_mem, a_marks, a_visitCount, a_inQueue, a_outQueue, a_blockStart, a_blockCount, a_blockRecent, a_links, a_entry, a_cover, a_opKind, a_opMode, a_opArg) m (nI (wn % 256))) (hs : e < nI sz) (hov : ∀ P : Int32 → Prop, P v → wpX_operandValue P (nI sz, f_executedCount, f_regA, f_regX, f_regS, f_pc, f_flagBits, f_znPending, f_znResult, f_cvKind, f_cvLeft, f_cvRight, f_cvWide, f_inHead, f_inSize, f_outHead, f_outSize, f_lastCode, f_lastDetail, f_cacheLimit, f_lengthLimit, f_hand, nI r, -1, 0, 0, 0, 0, a_mem, a_marks, a_visitCount, a_inQueue, a_outQueue, a_blockStart, a_blockCount, a_blockRecent, a_links, a_entry, a_cover, a_opKind, a_opMode, a_opArg) m (nI (wn % 256)) e) (hv : ab_W v) (hv0 : wn / 256 % 4 = 0 → v = nI (wn % 256)) (hv3 : wn / 256 % 4 = 3 → v = f_regX) (hv12 : wn / 256 % 4 = 1 ∨ wn / 256 % 4 = 2 → v = x6) (hY : ∀ pY : Int32 → SY → Prop, wY_step_56 pY (nI pa) (nI wn) (nI (wn / 256)) (nI (wn % 256)) x5 x6 f_inSize f_outSize (nI sz) f_regA f_regX f_regS (nI pa) y_fl y_ex f_lastCode f_lastDetail a_mem y_scr y_vc a_marks y_inp y_outp → wpY_step pY (f_inSize, f_outSize, nI sz, f_regA, f_regX, f_regS, nI pa, y_fl, y_ex, f_lastCode, f_lastDetail, a_mem, y_scr, y_vc, a_marks, y_inp, y_outp) (nI pa) (nI wn)) (KD : sp_KD post sz r idx pa wn g y_ex y_fl y_scr y_vc y_inp y_outp f_size f_executedCount f_regA f_regX f_regS f_pc f_flagBits f_znPending f_znResult f_cvKind f_cvLeft f_cvRight f_cvWide f_inHead f_inSize f_outHead f_outSize f_lastCode f_lastDetail f_cacheLimit f_lengthLimit f_hand f_running f_linkFrom f_exitKind f_controlDone f_trapCode f_trapDetail a_mem a_marks a_visitCount a_inQueue a_outQueue a_blockStart a_blockCount a_blockRecent a_links a_entry a_cover a_opKind a_opMode a_opArg)  : wpX_step post (nI sz, f_executedCount, f_regA, f_regX, f_regS, f_pc, f_flagBits, f_znPending, f_znResult, f_cvKind, f_cvLeft, f_cvRight, f_cvWide, f_inHead, f_inSize, f_outHead, f_outSize, f_lastCode, f_lastDetail, f_cacheLimit, f_lengthLimit, f_hand, nI r, -1, 0, 0, 0, 0, a_mem, a_marks, a_visitCount, a_inQueue, a_outQueue, a_blockStart, a_blockCount, a_blockRecent, a_links, a_entry, a_cover, a_opKind, a_opMode, a_opArg) (nI idx) (nI pa) := by
  obtain ⟨wA, wX, wS, wM, hF, hI, hO⟩ := G
  refine xq_4 hi hK hM hA hea hs hov (c := fg_cb f_flagBits f_cvKind f_cvWide) rfl ?_
  refine KD (fg_zn (fg_sf (fg_sf y_fl 4 (if 0 ≤ f_regA - v - (fg_cb f_flagBits f_cvKind f_cvWide) then 0 else 1)) 8 (if (((f_regA ^^^ v) &&& (f_regA ^^^ ((f_regA - v - (fg_cb f_flagBits f_cvKind f_cvWide)) &&& 65535))) &&& 32768) = 0 then 0 else 1)) ((f_regA - v - (fg_cb f_flagBits f_cvKind f_cvWide)) &&& 65535)) (nI (pa + 1)) y_inp y_outp g _ _ _ _ _ _ _ _ _ _ _ _ _ _ _ _ _ _ _ _ _ _ _ _ _ _ _ ?_ C ca_DRr ?_ ?_
  · exact ⟨ab_Wand _, wX, wS, wM, by rw [hF]; exact fg_sub, hI, hO⟩
  · exact Or.inl ⟨rfl, rfl, rfl, by omega⟩
  · intro pY h
    refine hY pY ?_
    refine yq_4 (c := fg_cb f_flagBits f_cvKind f_cvWide) h64 h107 hf (v := v) hv0 hv3 hv12 (fg_cbB _ _ _) (sp_hc (fg_zbB _ _ _) (fg_nbB _ _ _) (fg_cbB _ _ _) (fg_vbB _ _ _ _ _) hF) ?_
    exact h
theorem so_5 (hz32 : 32 ≤ sz) (hz : sz ≤ 256) (hr : r < 8) (hi : idx < 128) (hpa : pa < sz) (hw : wn < 65536) (G : sp_G f_regA f_regX f_regS y_fl f_flagBits f_znPending f_znResult f_cvKind f_cvLeft f_cvRight f_cvWide f_inHead f_inSize f_outHead f_outSize a_mem a_inQueue a_outQueue y_inp y_outp) (C : ca_CI sz g a_mem a_marks a_blockStart a_blockCount a_links a_entry a_cover a_opKind a_opMode a_opArg) {m v e x5 x6 : Int32} (h64 : 64 ≤ wn / 256) (h107 : wn / 256 ≤ 107) (hf : (wn / 256 - 64) / 4 = 5) (hK : a_opKind idx = 69) (hM : a_opMode idx = m) (hA : a_opArg idx = nI (wn % 256)) (hea : ∀ P : Int32 → Prop, P e → wpX_effectiveAddress P (nI sz, f_executedCount, f_regA, f_regX, f_regS, f_pc, f_flagBits, f_znPending, f_znResult, f_cvKind, f_cvLeft, f_cvRight, f_cvWide, f_inHead, f_inSize, f_outHead, f_outSize, f_lastCode, f_lastDetail, f_cacheLimit, f_lengthLimit, f_hand, nI r, -1, 0, 0, 0, 0, a_mem, a_marks, a_visitCount, a_inQueue, a_outQueue, a_blockStart, a_blockCount, a_blockRecent, a_links, a_entry, a_cover, a_opKind, a_opMode, a_opArg) m (nI (wn % 256))) (hs : e < nI sz) (hov : ∀ P : Int32 → Prop, P v → wpX_operandValue P (nI sz, f_executedCount, f_regA, f_regX, f_regS, f_pc, f_flagBits, f_znPending, f_znResult, f_cvKind, f_cvLeft, f_cvRight, f_cvWide, f_inHead, f_inSize, f_outHead, f_outSize, f_lastCode, f_lastDetail, f_cacheLimit, f_lengthLimit, f_hand, nI r, -1, 0, 0, 0, 0, a_mem, a_marks, a_visitCount, a_inQueue, a_outQueue, a_blockStart, a_blockCount, a_blockRecent, a_links, a_entry, a_cover, a_opKind, a_opMode, a_opArg) m (nI (wn % 256)) e) (hv : ab_W v) (hv0 : wn / 256 % 4 = 0 → v = nI (wn % 256)) (hv3 : wn / 256 % 4 = 3 → v = f_regX) (hv12 : wn / 256 % 4 = 1 ∨ wn / 256 % 4 = 2 → v = x6) (hY : ∀ pY : Int32 → SY → Prop, wY_step_56 pY (nI pa) (nI wn) (nI (wn / 256)) (nI (wn % 256)) x5 x6 f_inSize f_outSize (nI sz) f_regA f_regX f_regS (nI pa) y_fl y_ex f_lastCode f_lastDetail a_mem y_scr y_vc a_marks y_inp y_outp → wpY_step pY (f_inSize, f_outSize, nI sz, f_regA, f_regX, f_regS, nI pa, y_fl, y_ex, f_lastCode, f_lastDetail, a_mem, y_scr, y_vc, a_marks, y_inp, y_outp) (nI pa) (nI wn)) (KD : sp_KD post sz r idx pa wn g y_ex y_fl y_scr y_vc y_inp y_outp f_size f_executedCount f_regA f_regX f_regS f_pc f_flagBits f_znPending f_znResult f_cvKind f_cvLeft f_cvRight f_cvWide f_inHead f_inSize f_outHead f_outSize f_lastCode f_lastDetail f_cacheLimit f_lengthLimit f_hand f_running f_linkFrom f_exitKind f_controlDone f_trapCode f_trapDetail a_mem a_marks a_visitCount a_inQueue a_outQueue a_blockStart a_blockCount a_blockRecent a_links a_entry a_cover a_opKind a_opMode a_opArg)  : wpX_step post (nI sz, f_executedCount, f_regA, f_regX, f_regS, f_pc, f_flagBits, f_znPending, f_znResult, f_cvKind, f_cvLeft, f_cvRight, f_cvWide, f_inHead, f_inSize, f_outHead, f_outSize, f_lastCode, f_lastDetail, f_cacheLimit, f_lengthLimit, f_hand, nI r, -1, 0, 0, 0, 0, a_mem, a_marks, a_visitCount, a_inQueue, a_outQueue, a_blockStart, a_blockCount, a_blockRecent, a_links, a_entry, a_cover, a_opKind, a_opMode, a_opArg) (nI idx) (nI pa) := by
  obtain ⟨wA, wX, wS, wM, hF, hI, hO⟩ := G
  refine xq_5 hi hK hM hA hea hs hov  ?_
  refine KD (fg_zn (fg_sf (fg_sf y_fl 4 (if 0 ≤ f_regA - v - 0 then 0 else 1)) 8 (if (((f_regA ^^^ v) &&& (f_regA ^^^ ((f_regA - v - 0) &&& 65535))) &&& 32768) = 0 then 0 else 1)) ((f_regA - v - 0) &&& 65535)) (nI (pa + 1)) y_inp y_outp g _ _ _ _ _ _ _ _ _ _ _ _ _ _ _ _ _ _ _ _ _ _ _ _ _ _ _ ?_ C ca_DRr ?_ ?_
  · exact ⟨wA, wX, wS, wM, by rw [hF]; exact fg_sub, hI, hO⟩
  · exact Or.inl ⟨rfl, rfl, rfl, by omega⟩
  · intro pY h
    refine hY pY ?_
    refine yq_5 (c := fg_cb f_flagBits f_cvKind f_cvWide) h64 h107 hf (v := v) hv0 hv3 hv12 (fg_cbB _ _ _) (sp_hc (fg_zbB _ _ _) (fg_nbB _ _ _) (fg_cbB _ _ _) (fg_vbB _ _ _ _ _) hF) ?_
    exact h
theorem so_6 (hz32 : 32 ≤ sz) (hz : sz ≤ 256) (hr : r < 8) (hi : idx < 128) (hpa : pa < sz) (hw : wn < 65536) (G : sp_G f_regA f_regX f_regS y_fl f_flagBits f_znPending f_znResult f_cvKind f_cvLeft f_cvRight f_cvWide f_inHead f_inSize f_outHead f_outSize a_mem a_inQueue a_outQueue y_inp y_outp) (C : ca_CI sz g a_mem a_marks a_blockStart a_blockCount a_links a_entry a_cover a_opKind a_opMode a_opArg) {m v e x5 x6 : Int32} (h64 : 64 ≤ wn / 256) (h107 : wn / 256 ≤ 107) (hf : (wn / 256 - 64) / 4 = 6) (hK : a_opKind idx = 70) (hM : a_opMode idx = m) (hA : a_opArg idx = nI (wn % 256)) (hea : ∀ P : Int32 → Prop, P e → wpX_effectiveAddress P (nI sz, f_executedCount, f_regA, f_regX, f_regS, f_pc, f_flagBits, f_znPending, f_znResult, f_cvKind, f_cvLeft, f_cvRight, f_cvWide, f_inHead, f_inSize, f_outHead, f_outSize, f_lastCode, f_lastDetail, f_cacheLimit, f_lengthLimit, f_hand, nI r, -1, 0, 0, 0, 0, a_mem, a_marks, a_visitCount, a_inQueue, a_outQueue, a_blockStart, a_blockCount, a_blockRecent, a_links, a_entry, a_cover, a_opKind, a_opMode, a_opArg) m (nI (wn % 256))) (hs : e < nI sz) (hov : ∀ P : Int32 → Prop, P v → wpX_operandValue P (nI sz, f_executedCount, f_regA, f_regX, f_regS, f_pc, f_flagBits, f_znPending, f_znResult, f_cvKind, f_cvLeft, f_cvRight, f_cvWide, f_inHead, f_inSize, f_outHead, f_outSize, f_lastCode, f_lastDetail, f_cacheLimit, f_lengthLimit, f_hand, nI r, -1, 0, 0, 0, 0, a_mem, a_marks, a_visitCount, a_inQueue, a_outQueue, a_blockStart, a_blockCount, a_blockRecent, a_links, a_entry, a_cover, a_opKind, a_opMode, a_opArg) m (nI (wn % 256)) e) (hv : ab_W v) (hv0 : wn / 256 % 4 = 0 → v = nI (wn % 256)) (hv3 : wn / 256 % 4 = 3 → v = f_regX) (hv12 : wn / 256 % 4 = 1 ∨ wn / 256 % 4 = 2 → v = x6) (hY : ∀ pY : Int32 → SY → Prop, wY_step_56 pY (nI pa) (nI wn) (nI (wn / 256)) (nI (wn % 256)) x5 x6 f_inSize f_outSize (nI sz) f_regA f_regX f_regS (nI pa) y_fl y_ex f_lastCode f_lastDetail a_mem y_scr y_vc a_marks y_inp y_outp → wpY_step pY (f_inSize, f_outSize, nI sz, f_regA, f_regX, f_regS, nI pa, y_fl, y_ex, f_lastCode, f_lastDetail, a_mem, y_scr, y_vc, a_marks, y_inp, y_outp) (nI pa) (nI wn)) (KD : sp_KD post sz r idx pa wn g y_ex y_fl y_scr y_vc y_inp y_outp f_size f_executedCount f_regA f_regX f_regS f_pc f_flagBits f_znPending f_znResult f_cvKind f_cvLeft f_cvRight f_cvWide f_inHead f_inSize f_outHead f_outSize f_lastCode f_lastDetail f_cacheLimit f_lengthLimit f_hand f_running f_linkFrom f_exitKind f_controlDone f_trapCode f_trapDetail a_mem a_marks a_visitCount a_inQueue a_outQueue a_blockStart a_blockCount a_blockRecent a_links a_entry a_cover a_opKind a_opMode a_opArg)  : wpX_step post (nI sz, f_executedCount, f_regA, f_regX, f_regS, f_pc, f_flagBits, f_znPending, f_znResult, f_cvKind, f_cvLeft, f_cvRight, f_cvWide, f_inHead, f_inSize, f_outHead, f_outSize, f_lastCode, f_lastDetail, f_cacheLimit, f_lengthLimit, f_hand, nI r, -1, 0, 0, 0, 0, a_mem, a_marks, a_visitCount, a_inQueue, a_outQueue, a_blockStart, a_blockCount, a_blockRecent, a_links, a_entry, a_cover, a_opKind, a_opMode, a_opArg) (nI idx) (nI pa) := by
  obtain ⟨wA, wX, wS, wM, hF, hI, hO⟩ := G
  refine xq_6 hi hK hM hA hea hs hov  ?_
  refine KD (fg_zn y_fl (f_regA &&& v)) (nI (pa + 1)) y_inp y_outp g _ _ _ _ _ _ _ _ _ _ _ _ _ _ _ _ _ _ _ _ _ _ _ _ _ _ _ ?_ C ca_DRr ?_ ?_
  · exact ⟨ab_W_and wA, wX, wS, wM, by rw [hF]; exact fg_znF, hI, hO⟩
  · exact Or.inl ⟨rfl, rfl, rfl, by omega⟩
  · intro pY h
    refine hY pY ?_
    refine yq_6 (c := fg_cb f_flagBits f_cvKind f_cvWide) h64 h107 hf (v := v) hv0 hv3 hv12 (fg_cbB _ _ _) (sp_hc (fg_zbB _ _ _) (fg_nbB _ _ _) (fg_cbB _ _ _) (fg_vbB _ _ _ _ _) hF) ?_
    exact h
theorem so_7 (hz32 : 32 ≤ sz) (hz : sz ≤ 256) (hr : r < 8) (hi : idx < 128) (hpa : pa < sz) (hw : wn < 65536) (G : sp_G f_regA f_regX f_regS y_fl f_flagBits f_znPending f_znResult f_cvKind f_cvLeft f_cvRight f_cvWide f_inHead f_inSize f_outHead f_outSize a_mem a_inQueue a_outQueue y_inp y_outp) (C : ca_CI sz g a_mem a_marks a_blockStart a_blockCount a_links a_entry a_cover a_opKind a_opMode a_opArg) {m v e x5 x6 : Int32} (h64 : 64 ≤ wn / 256) (h107 : wn / 256 ≤ 107) (hf : (wn / 256 - 64) / 4 = 7) (hK : a_opKind idx = 71) (hM : a_opMode idx = m) (hA : a_opArg idx = nI (wn % 256)) (hea : ∀ P : Int32 → Prop, P e → wpX_effectiveAddress P (nI sz, f_executedCount, f_regA, f_regX, f_regS, f_pc, f_flagBits, f_znPending, f_znResult, f_cvKind, f_cvLeft, f_cvRight, f_cvWide, f_inHead, f_inSize, f_outHead, f_outSize, f_lastCode, f_lastDetail, f_cacheLimit, f_lengthLimit, f_hand, nI r, -1, 0, 0, 0, 0, a_mem, a_marks, a_visitCount, a_inQueue, a_outQueue, a_blockStart, a_blockCount, a_blockRecent, a_links, a_entry, a_cover, a_opKind, a_opMode, a_opArg) m (nI (wn % 256))) (hs : e < nI sz) (hov : ∀ P : Int32 → Prop, P v → wpX_operandValue P (nI sz, f_executedCount, f_regA, f_regX, f_regS, f_pc, f_flagBits, f_znPending, f_znResult, f_cvKind, f_cvLeft, f_cvRight, f_cvWide, f_inHead, f_inSize, f_outHead, f_outSize, f_lastCode, f_lastDetail, f_cacheLimit, f_lengthLimit, f_hand, nI r, -1, 0, 0, 0, 0, a_mem, a_marks, a_visitCount, a_inQueue, a_outQueue, a_blockStart, a_blockCount, a_blockRecent, a_links, a_entry, a_cover, a_opKind, a_opMode, a_opArg) m (nI (wn % 256)) e) (hv : ab_W v) (hv0 : wn / 256 % 4 = 0 → v = nI (wn % 256)) (hv3 : wn / 256 % 4 = 3 → v = f_regX) (hv12 : wn / 256 % 4 = 1 ∨ wn / 256 % 4 = 2 → v = x6) (hY : ∀ pY : Int32 → SY → Prop, wY_step_56 pY (nI pa) (nI wn) (nI (wn / 256)) (nI (wn % 256)) x5 x6 f_inSize f_outSize (nI sz) f_regA f_regX f_regS (nI pa) y_fl y_ex f_lastCode f_lastDetail a_mem y_scr y_vc a_marks y_inp y_outp → wpY_step pY (f_inSize, f_outSize, nI sz, f_regA, f_regX, f_regS, nI pa, y_fl, y_ex, f_lastCode, f_lastDetail, a_mem, y_scr, y_vc, a_marks, y_inp, y_outp) (nI pa) (nI wn)) (KD : sp_KD post sz r idx pa wn g y_ex y_fl y_scr y_vc y_inp y_outp f_size f_executedCount f_regA f_regX f_regS f_pc f_flagBits f_znPending f_znResult f_cvKind f_cvLeft f_cvRight f_cvWide f_inHead f_inSize f_outHead f_outSize f_lastCode f_lastDetail f_cacheLimit f_lengthLimit f_hand f_running f_linkFrom f_exitKind f_controlDone f_trapCode f_trapDetail a_mem a_marks a_visitCount a_inQueue a_outQueue a_blockStart a_blockCount a_blockRecent a_links a_entry a_cover a_opKind a_opMode a_opArg)  : wpX_step post (nI sz, f_executedCount, f_regA, f_regX, f_regS, f_pc, f_flagBits, f_znPending, f_znResult, f_cvKind, f_cvLeft, f_cvRight, f_cvWide, f_inHead, f_inSize, f_outHead, f_outSize, f_lastCode, f_lastDetail, f_cacheLimit, f_lengthLimit, f_hand, nI r, -1, 0, 0, 0, 0, a_mem, a_marks, a_visitCount, a_inQueue, a_outQueue, a_blockStart, a_blockCount, a_blockRecent, a_links, a_entry, a_cover, a_opKind, a_opMode, a_opArg) (nI idx) (nI pa) := by
  obtain ⟨wA, wX, wS, wM, hF, hI, hO⟩ := G
  refine xq_7 hi hK hM hA hea hs hov  ?_
  refine KD (fg_zn y_fl (f_regA ||| v)) (nI (pa + 1)) y_inp y_outp g _ _ _ _ _ _ _ _ _ _ _ _ _ _ _ _ _ _ _ _ _ _ _ _ _ _ _ ?_ C ca_DRr ?_ ?_
  · exact ⟨ab_Wor wA hv, wX, wS, wM, by rw [hF]; exact fg_znF, hI, hO⟩
  · exact Or.inl ⟨rfl, rfl, rfl, by omega⟩
  · intro pY h
    refine hY pY ?_
    refine yq_7 (c := fg_cb f_flagBits f_cvKind f_cvWide) h64 h107 hf (v := v) hv0 hv3 hv12 (fg_cbB _ _ _) (sp_hc (fg_zbB _ _ _) (fg_nbB _ _ _) (fg_cbB _ _ _) (fg_vbB _ _ _ _ _) hF) ?_
    exact h
theorem so_8 (hz32 : 32 ≤ sz) (hz : sz ≤ 256) (hr : r < 8) (hi : idx < 128) (hpa : pa < sz) (hw : wn < 65536) (G : sp_G f_regA f_regX f_regS y_fl f_flagBits f_znPending f_znResult f_cvKind f_cvLeft f_cvRight f_cvWide f_inHead f_inSize f_outHead f_outSize a_mem a_inQueue a_outQueue y_inp y_outp) (C : ca_CI sz g a_mem a_marks a_blockStart a_blockCount a_links a_entry a_cover a_opKind a_opMode a_opArg) {m v e x5 x6 : Int32} (h64 : 64 ≤ wn / 256) (h107 : wn / 256 ≤ 107) (hf : (wn / 256 - 64) / 4 = 8) (hK : a_opKind idx = 72) (hM : a_opMode idx = m) (hA : a_opArg idx = nI (wn % 256)) (hea : ∀ P : Int32 → Prop, P e → wpX_effectiveAddress P (nI sz, f_executedCount, f_regA, f_regX, f_regS, f_pc, f_flagBits, f_znPending, f_znResult, f_cvKind, f_cvLeft, f_cvRight, f_cvWide, f_inHead, f_inSize, f_outHead, f_outSize, f_lastCode, f_lastDetail, f_cacheLimit, f_lengthLimit, f_hand, nI r, -1, 0, 0, 0, 0, a_mem, a_marks, a_visitCount, a_inQueue, a_outQueue, a_blockStart, a_blockCount, a_blockRecent, a_links, a_entry, a_cover, a_opKind, a_opMode, a_opArg) m (nI (wn % 256))) (hs : e < nI sz) (hov : ∀ P : Int32 → Prop, P v → wpX_operandValue P (nI sz, f_executedCount, f_regA, f_regX, f_regS, f_pc, f_flagBits, f_znPending, f_znResult, f_cvKind, f_cvLeft, f_cvRight, f_cvWide, f_inHead, f_inSize, f_outHead, f_outSize, f_lastCode, f_lastDetail, f_cacheLimit, f_lengthLimit, f_hand, nI r, -1, 0, 0, 0, 0, a_mem, a_marks, a_visitCount, a_inQueue, a_outQueue, a_blockStart, a_blockCount, a_blockRecent, a_links, a_entry, a_cover, a_opKind, a_opMode, a_opArg) m (nI (wn % 256)) e) (hv : ab_W v) (hv0 : wn / 256 % 4 = 0 → v = nI (wn % 256)) (hv3 : wn / 256 % 4 = 3 → v = f_regX) (hv12 : wn / 256 % 4 = 1 ∨ wn / 256 % 4 = 2 → v = x6) (hY : ∀ pY : Int32 → SY → Prop, wY_step_56 pY (nI pa) (nI wn) (nI (wn / 256)) (nI (wn % 256)) x5 x6 f_inSize f_outSize (nI sz) f_regA f_regX f_regS (nI pa) y_fl y_ex f_lastCode f_lastDetail a_mem y_scr y_vc a_marks y_inp y_outp → wpY_step pY (f_inSize, f_outSize, nI sz, f_regA, f_regX, f_regS, nI pa, y_fl, y_ex, f_lastCode, f_lastDetail, a_mem, y_scr, y_vc, a_marks, y_inp, y_outp) (nI pa) (nI wn)) (KD : sp_KD post sz r idx pa wn g y_ex y_fl y_scr y_vc y_inp y_outp f_size f_executedCount f_regA f_regX f_regS f_pc f_flagBits f_znPending f_znResult f_cvKind f_cvLeft f_cvRight f_cvWide f_inHead f_inSize f_outHead f_outSize f_lastCode f_lastDetail f_cacheLimit f_lengthLimit f_hand f_running f_linkFrom f_exitKind f_controlDone f_trapCode f_trapDetail a_mem a_marks a_visitCount a_inQueue a_outQueue a_blockStart a_blockCount a_blockRecent a_links a_entry a_cover a_opKind a_opMode a_opArg)  : wpX_step post (nI sz, f_executedCount, f_regA, f_regX, f_regS, f_pc, f_flagBits, f_znPending, f_znResult, f_cvKind, f_cvLeft, f_cvRight, f_cvWide, f_inHead, f_inSize, f_outHead, f_outSize, f_lastCode, f_lastDetail, f_cacheLimit, f_lengthLimit, f_hand, nI r, -1, 0, 0, 0, 0, a_mem, a_marks, a_visitCount, a_inQueue, a_outQueue, a_blockStart, a_blockCount, a_blockRecent, a_links, a_entry, a_cover, a_opKind, a_opMode, a_opArg) (nI idx) (nI pa) := by
  obtain ⟨wA, wX, wS, wM, hF, hI, hO⟩ := G
  refine xq_8 hi hK hM hA hea hs hov  ?_
  refine KD (fg_zn y_fl (f_regA ^^^ v)) (nI (pa + 1)) y_inp y_outp g _ _ _ _ _ _ _ _ _ _ _ _ _ _ _ _ _ _ _ _ _ _ _ _ _ _ _ ?_ C ca_DRr ?_ ?_
  · exact ⟨ab_Wxor wA hv, wX, wS, wM, by rw [hF]; exact fg_znF, hI, hO⟩
  · exact Or.inl ⟨rfl, rfl, rfl, by omega⟩
  · intro pY h
    refine hY pY ?_
    refine yq_8 (c := fg_cb f_flagBits f_cvKind f_cvWide) h64 h107 hf (v := v) hv0 hv3 hv12 (fg_cbB _ _ _) (sp_hc (fg_zbB _ _ _) (fg_nbB _ _ _) (fg_cbB _ _ _) (fg_vbB _ _ _ _ _) hF) ?_
    exact h
theorem so_9 (hz32 : 32 ≤ sz) (hz : sz ≤ 256) (hr : r < 8) (hi : idx < 128) (hpa : pa < sz) (hw : wn < 65536) (G : sp_G f_regA f_regX f_regS y_fl f_flagBits f_znPending f_znResult f_cvKind f_cvLeft f_cvRight f_cvWide f_inHead f_inSize f_outHead f_outSize a_mem a_inQueue a_outQueue y_inp y_outp) (C : ca_CI sz g a_mem a_marks a_blockStart a_blockCount a_links a_entry a_cover a_opKind a_opMode a_opArg) {m v e x5 x6 : Int32} (h64 : 64 ≤ wn / 256) (h107 : wn / 256 ≤ 107) (hf : (wn / 256 - 64) / 4 = 9) (hK : a_opKind idx = 73) (hM : a_opMode idx = m) (hA : a_opArg idx = nI (wn % 256)) (hea : ∀ P : Int32 → Prop, P e → wpX_effectiveAddress P (nI sz, f_executedCount, f_regA, f_regX, f_regS, f_pc, f_flagBits, f_znPending, f_znResult, f_cvKind, f_cvLeft, f_cvRight, f_cvWide, f_inHead, f_inSize, f_outHead, f_outSize, f_lastCode, f_lastDetail, f_cacheLimit, f_lengthLimit, f_hand, nI r, -1, 0, 0, 0, 0, a_mem, a_marks, a_visitCount, a_inQueue, a_outQueue, a_blockStart, a_blockCount, a_blockRecent, a_links, a_entry, a_cover, a_opKind, a_opMode, a_opArg) m (nI (wn % 256))) (hs : e < nI sz) (hov : ∀ P : Int32 → Prop, P v → wpX_operandValue P (nI sz, f_executedCount, f_regA, f_regX, f_regS, f_pc, f_flagBits, f_znPending, f_znResult, f_cvKind, f_cvLeft, f_cvRight, f_cvWide, f_inHead, f_inSize, f_outHead, f_outSize, f_lastCode, f_lastDetail, f_cacheLimit, f_lengthLimit, f_hand, nI r, -1, 0, 0, 0, 0, a_mem, a_marks, a_visitCount, a_inQueue, a_outQueue, a_blockStart, a_blockCount, a_blockRecent, a_links, a_entry, a_cover, a_opKind, a_opMode, a_opArg) m (nI (wn % 256)) e) (hv : ab_W v) (hv0 : wn / 256 % 4 = 0 → v = nI (wn % 256)) (hv3 : wn / 256 % 4 = 3 → v = f_regX) (hv12 : wn / 256 % 4 = 1 ∨ wn / 256 % 4 = 2 → v = x6) (hY : ∀ pY : Int32 → SY → Prop, wY_step_56 pY (nI pa) (nI wn) (nI (wn / 256)) (nI (wn % 256)) x5 x6 f_inSize f_outSize (nI sz) f_regA f_regX f_regS (nI pa) y_fl y_ex f_lastCode f_lastDetail a_mem y_scr y_vc a_marks y_inp y_outp → wpY_step pY (f_inSize, f_outSize, nI sz, f_regA, f_regX, f_regS, nI pa, y_fl, y_ex, f_lastCode, f_lastDetail, a_mem, y_scr, y_vc, a_marks, y_inp, y_outp) (nI pa) (nI wn)) (KD : sp_KD post sz r idx pa wn g y_ex y_fl y_scr y_vc y_inp y_outp f_size f_executedCount f_regA f_regX f_regS f_pc f_flagBits f_znPending f_znResult f_cvKind f_cvLeft f_cvRight f_cvWide f_inHead f_inSize f_outHead f_outSize f_lastCode f_lastDetail f_cacheLimit f_lengthLimit f_hand f_running f_linkFrom f_exitKind f_controlDone f_trapCode f_trapDetail a_mem a_marks a_visitCount a_inQueue a_outQueue a_blockStart a_blockCount a_blockRecent a_links a_entry a_cover a_opKind a_opMode a_opArg) (KT : sp_KT post sz r pa wn y_ex y_fl y_scr y_vc y_inp y_outp f_size f_executedCount f_regA f_regX f_regS f_pc f_flagBits f_znPending f_znResult f_cvKind f_cvLeft f_cvRight f_cvWide f_inHead f_inSize f_outHead f_outSize f_lastCode f_lastDetail f_cacheLimit f_lengthLimit f_hand f_running f_linkFrom f_exitKind f_controlDone f_trapCode f_trapDetail a_mem a_marks a_visitCount a_inQueue a_outQueue a_blockStart a_blockCount a_blockRecent a_links a_entry a_cover a_opKind a_opMode a_opArg) : wpX_step post (nI sz, f_executedCount, f_regA, f_regX, f_regS, f_pc, f_flagBits, f_znPending, f_znResult, f_cvKind, f_cvLeft, f_cvRight, f_cvWide, f_inHead, f_inSize, f_outHead, f_outSize, f_lastCode, f_lastDetail, f_cacheLimit, f_lengthLimit, f_hand, nI r, -1, 0, 0, 0, 0, a_mem, a_marks, a_visitCount, a_inQueue, a_outQueue, a_blockStart, a_blockCount, a_blockRecent, a_links, a_entry, a_cover, a_opKind, a_opMode, a_opArg) (nI idx) (nI pa) := by
  obtain ⟨wA, wX, wS, wM, hF, hI, hO⟩ := G
  by_cases h0 : v = 0
  · refine xq_9T hi hK hM hA hea hs hov h0 ?_
    refine KT 10 0 (by decide) ?_
    intro pY h
    refine hY pY ?_
    refine yq_9T (c := fg_cb f_flagBits f_cvKind f_cvWide) h64 h107 hf (v := v) hv0 hv3 hv12 (fg_cbB _ _ _) (sp_hc (fg_zbB _ _ _) (fg_nbB _ _ _) (fg_cbB _ _ _) (fg_vbB _ _ _ _ _) hF) h0 ?_
    exact h
  · refine xq_9 hi hK hM hA hea hs hov h0 ?_
    refine KD (fg_zn y_fl (f_regA / v)) (nI (pa + 1)) y_inp y_outp g _ _ _ _ _ _ _ _ _ _ _ _ _ _ _ _ _ _ _ _ _ _ _ _ _ _ _ ?_ C ca_DRr ?_ ?_
    · exact ⟨sp_div wA hv h0, sp_rem wA hv h0, wS, wM, by rw [hF]; exact fg_znF, hI, hO⟩
    · exact Or.inl ⟨rfl, rfl, rfl, by omega⟩
    · intro pY h
      refine hY pY ?_
      refine yq_9 (c := fg_cb f_flagBits f_cvKind f_cvWide) h64 h107 hf (v := v) hv0 hv3 hv12 (fg_cbB _ _ _) (sp_hc (fg_zbB _ _ _) (fg_nbB _ _ _) (fg_cbB _ _ _) (fg_vbB _ _ _ _ _) hF) h0 ?_
      exact h
theorem so_10 (hz32 : 32 ≤ sz) (hz : sz ≤ 256) (hr : r < 8) (hi : idx < 128) (hpa : pa < sz) (hw : wn < 65536) (G : sp_G f_regA f_regX f_regS y_fl f_flagBits f_znPending f_znResult f_cvKind f_cvLeft f_cvRight f_cvWide f_inHead f_inSize f_outHead f_outSize a_mem a_inQueue a_outQueue y_inp y_outp) (C : ca_CI sz g a_mem a_marks a_blockStart a_blockCount a_links a_entry a_cover a_opKind a_opMode a_opArg) {m v e x5 x6 : Int32} (h64 : 64 ≤ wn / 256) (h107 : wn / 256 ≤ 107) (hf : (wn / 256 - 64) / 4 = 10) (hK : a_opKind idx = 74) (hM : a_opMode idx = m) (hA : a_opArg idx = nI (wn % 256)) (hea : ∀ P : Int32 → Prop, P e → wpX_effectiveAddress P (nI sz, f_executedCount, f_regA, f_regX, f_regS, f_pc, f_flagBits, f_znPending, f_znResult, f_cvKind, f_cvLeft, f_cvRight, f_cvWide, f_inHead, f_inSize, f_outHead, f_outSize, f_lastCode, f_lastDetail, f_cacheLimit, f_lengthLimit, f_hand, nI r, -1, 0, 0, 0, 0, a_mem, a_marks, a_visitCount, a_inQueue, a_outQueue, a_blockStart, a_blockCount, a_blockRecent, a_links, a_entry, a_cover, a_opKind, a_opMode, a_opArg) m (nI (wn % 256))) (hs : e < nI sz) (hov : ∀ P : Int32 → Prop, P v → wpX_operandValue P (nI sz, f_executedCount, f_regA, f_regX, f_regS, f_pc, f_flagBits, f_znPending, f_znResult, f_cvKind, f_cvLeft, f_cvRight, f_cvWide, f_inHead, f_inSize, f_outHead, f_outSize, f_lastCode, f_lastDetail, f_cacheLimit, f_lengthLimit, f_hand, nI r, -1, 0, 0, 0, 0, a_mem, a_marks, a_visitCount, a_inQueue, a_outQueue, a_blockStart, a_blockCount, a_blockRecent, a_links, a_entry, a_cover, a_opKind, a_opMode, a_opArg) m (nI (wn % 256)) e) (hv : ab_W v) (hv0 : wn / 256 % 4 = 0 → v = nI (wn % 256)) (hv3 : wn / 256 % 4 = 3 → v = f_regX) (hv12 : wn / 256 % 4 = 1 ∨ wn / 256 % 4 = 2 → v = x6) (hY : ∀ pY : Int32 → SY → Prop, wY_step_56 pY (nI pa) (nI wn) (nI (wn / 256)) (nI (wn % 256)) x5 x6 f_inSize f_outSize (nI sz) f_regA f_regX f_regS (nI pa) y_fl y_ex f_lastCode f_lastDetail a_mem y_scr y_vc a_marks y_inp y_outp → wpY_step pY (f_inSize, f_outSize, nI sz, f_regA, f_regX, f_regS, nI pa, y_fl, y_ex, f_lastCode, f_lastDetail, a_mem, y_scr, y_vc, a_marks, y_inp, y_outp) (nI pa) (nI wn)) (KD : sp_KD post sz r idx pa wn g y_ex y_fl y_scr y_vc y_inp y_outp f_size f_executedCount f_regA f_regX f_regS f_pc f_flagBits f_znPending f_znResult f_cvKind f_cvLeft f_cvRight f_cvWide f_inHead f_inSize f_outHead f_outSize f_lastCode f_lastDetail f_cacheLimit f_lengthLimit f_hand f_running f_linkFrom f_exitKind f_controlDone f_trapCode f_trapDetail a_mem a_marks a_visitCount a_inQueue a_outQueue a_blockStart a_blockCount a_blockRecent a_links a_entry a_cover a_opKind a_opMode a_opArg)  : wpX_step post (nI sz, f_executedCount, f_regA, f_regX, f_regS, f_pc, f_flagBits, f_znPending, f_znResult, f_cvKind, f_cvLeft, f_cvRight, f_cvWide, f_inHead, f_inSize, f_outHead, f_outSize, f_lastCode, f_lastDetail, f_cacheLimit, f_lengthLimit, f_hand, nI r, -1, 0, 0, 0, 0, a_mem, a_marks, a_visitCount, a_inQueue, a_outQueue, a_blockStart, a_blockCount, a_blockRecent, a_links, a_entry, a_cover, a_opKind, a_opMode, a_opArg) (nI idx) (nI pa) := by
  obtain ⟨wA, wX, wS, wM, hF, hI, hO⟩ := G
  refine xq_10 hi hK hM hA hea hs hov  ?_
  refine KD (fg_zn y_fl v) (nI (pa + 1)) y_inp y_outp g _ _ _ _ _ _ _ _ _ _ _ _ _ _ _ _ _ _ _ _ _ _ _ _ _ _ _ ?_ C ca_DRr ?_ ?_
  · exact ⟨wA, hv, wS, wM, by rw [hF]; exact fg_znF, hI, hO⟩
  · exact Or.inl ⟨rfl, rfl, rfl, by omega⟩
  · intro pY h
    refine hY pY ?_
    refine yq_10 (c := fg_cb f_flagBits f_cvKind f_cvWide) h64 h107 hf (v := v) hv0 hv3 hv12 (fg_cbB _ _ _) (sp_hc (fg_zbB _ _ _) (fg_nbB _ _ _) (fg_cbB _ _ _) (fg_vbB _ _ _ _ _) hF) ?_
    exact h
end SP
end
section
/-! the step, in lockstep (printed by gen12.py) -/
section SP
variable {f_size f_executedCount f_regA f_regX f_regS f_pc f_flagBits f_znPending f_znResult f_cvKind f_cvLeft f_cvRight f_cvWide f_inHead f_inSize f_outHead f_outSize f_lastCode f_lastDetail f_cacheLimit f_lengthLimit f_hand f_running f_linkFrom f_exitKind f_controlDone f_trapCode f_trapDetail : Int32} {a_mem a_marks a_visitCount a_inQueue a_outQueue a_blockStart a_blockCount a_blockRecent a_links a_entry a_cover a_opKind a_opMode a_opArg : Nat → Int32}
variable {y_fl : Int32} {y_scr y_inp y_outp : Nat → Int32}
variable {y_ex : Int32} {y_vc : Nat → Int32} {post : Int32 → SX → Prop} {sz r idx pa wn : Nat} {g : Nat → Option (Nat × Nat)}
theorem so_all (hz32 : 32 ≤ sz) (hz : sz ≤ 256) (hr : r < 8) (hi : idx < 128) (hpa : pa < sz) (hw : wn < 65536) (G : sp_G f_regA f_regX f_regS y_fl f_flagBits f_znPending f_znResult f_cvKind f_cvLeft f_cvRight f_cvWide f_inHead f_inSize f_outHead f_outSize a_mem a_inQueue a_outQueue y_inp y_outp) (C : ca_CI sz g a_mem a_marks a_blockStart a_blockCount a_links a_entry a_cover a_opKind a_opMode a_opArg) {m v e x5 x6 : Int32} (h64 : 64 ≤ wn / 256) (h107 : wn / 256 ≤ 107) (hK : a_opKind idx = nI (64 + (wn / 256 - 64) / 4)) (hM : a_opMode idx = m) (hA : a_opArg idx = nI (wn % 256)) (hea : ∀ P : Int32 → Prop, P e → wpX_effectiveAddress P (nI sz, f_executedCount, f_regA, f_regX, f_regS, f_pc, f_flagBits, f_znPending, f_znResult, f_cvKind, f_cvLeft, f_cvRight, f_cvWide, f_inHead, f_inSize, f_outHead, f_outSize, f_lastCode, f_lastDetail, f_cacheLimit, f_lengthLimit, f_hand, nI r, -1, 0, 0, 0, 0, a_mem, a_marks, a_visitCount, a_inQueue, a_outQueue, a_blockStart, a_blockCount, a_blockRecent, a_links, a_entry, a_cover, a_opKind, a_opMode, a_opArg) m (nI (wn % 256))) (hs : e < nI sz) (hov : ∀ P : Int32 → Prop, P v → wpX_operandValue P (nI sz, f_executedCount, f_regA, f_regX, f_regS, f_pc, f_flagBits, f_znPending, f_znResult, f_cvKind, f_cvLeft, f_cvRight, f_cvWide, f_inHead, f_inSize, f_outHead, f_outSize, f_lastCode, f_lastDetail, f_cacheLimit, f_lengthLimit, f_hand, nI r, -1, 0, 0, 0, 0, a_mem, a_marks, a_visitCount, a_inQueue, a_outQueue, a_blockStart, a_blockCount, a_blockRecent, a_links, a_entry, a_cover, a_opKind, a_opMode, a_opArg) m (nI (wn % 256)) e) (hv : ab_W v) (hv0 : wn / 256 % 4 = 0 → v = nI (wn % 256)) (hv3 : wn / 256 % 4 = 3 → v = f_regX) (hv12 : wn / 256 % 4 = 1 ∨ wn / 256 % 4 = 2 → v = x6) (hY : ∀ pY : Int32 → SY → Prop, wY_step_56 pY (nI pa) (nI wn) (nI (wn / 256)) (nI (wn % 256)) x5 x6 f_inSize f_outSize (nI sz) f_regA f_regX f_regS (nI pa) y_fl y_ex f_lastCode f_lastDetail a_mem y_scr y_vc a_marks y_inp y_outp → wpY_step pY (f_inSize, f_outSize, nI sz, f_regA, f_regX, f_regS, nI pa, y_fl, y_ex, f_lastCode, f_lastDetail, a_mem, y_scr, y_vc, a_marks, y_inp, y_outp) (nI pa) (nI wn)) (KD : sp_KD post sz r idx pa wn g y_ex y_fl y_scr y_vc y_inp y_outp f_size f_executedCount f_regA f_regX f_regS f_pc f_flagBits f_znPending f_znResult f_cvKind f_cvLeft f_cvRight f_cvWide f_inHead f_inSize f_outHead f_outSize f_lastCode f_lastDetail f_cacheLimit f_lengthLimit f_hand f_running f_linkFrom f_exitKind f_controlDone f_trapCode f_trapDetail a_mem a_marks a_visitCount a_inQueue a_outQueue a_blockStart a_blockCount a_blockRecent a_links a_entry a_cover a_opKind a_opMode a_opArg) (KT : sp_KT post sz r pa wn y_ex y_fl y_scr y_vc y_inp y_outp f_size f_executedCount f_regA f_regX f_regS f_pc f_flagBits f_znPending f_znResult f_cvKind f_cvLeft f_cvRight f_cvWide f_inHead f_inSize f_outHead f_outSize f_lastCode f_lastDetail f_cacheLimit f_lengthLimit f_hand f_running f_linkFrom f_exitKind f_controlDone f_trapCode f_trapDetail a_mem a_marks a_visitCount a_inQueue a_outQueue a_blockStart a_blockCount a_blockRecent a_links a_entry a_cover a_opKind a_opMode a_opArg) : wpX_step post (nI sz, f_executedCount, f_regA, f_regX, f_regS, f_pc, f_flagBits, f_znPending, f_znResult, f_cvKind, f_cvLeft, f_cvRight, f_cvWide, f_inHead, f_inSize, f_outHead, f_outSize, f_lastCode, f_lastDetail, f_cacheLimit, f_lengthLimit, f_hand, nI r, -1, 0, 0, 0, 0, a_mem, a_marks, a_visitCount, a_inQueue, a_outQueue, a_blockStart, a_blockCount, a_blockRecent, a_links, a_entry, a_cover, a_opKind, a_opMode, a_opArg) (nI idx) (nI pa) := by
  have hf : (wn / 256 - 64) / 4 = 0 ∨ (wn / 256 - 64) / 4 = 1 ∨ (wn / 256 - 64) / 4 = 2 ∨ (wn / 256 - 64) / 4 = 3 ∨ (wn / 256 - 64) / 4 = 4 ∨ (wn / 256 - 64) / 4 = 5 ∨ (wn / 256 - 64) / 4 = 6 ∨ (wn / 256 - 64) / 4 = 7 ∨ (wn / 256 - 64) / 4 = 8 ∨ (wn / 256 - 64) / 4 = 9 ∨ (wn / 256 - 64) / 4 = 10 := by omega
  rcases hf with hf | hf | hf | hf | hf | hf | hf | hf | hf | hf | hf
  · rw [hf] at hK
    exact so_0 hz32 hz hr hi hpa hw G C h64 h107 hf hK hM hA hea hs hov hv hv0 hv3 hv12 hY KD
  · rw [hf] at hK
    exact so_1 hz32 hz hr hi hpa hw G C h64 h107 hf hK hM hA hea hs hov hv hv0 hv3 hv12 hY KD
  · rw [hf] at hK
    exact so_2 hz32 hz hr hi hpa hw G C h64 h107 hf hK hM hA hea hs hov hv hv0 hv3 hv12 hY KD
  · rw [hf] at hK
    exact so_3 hz32 hz hr hi hpa hw G C h64 h107 hf hK hM hA hea hs hov hv hv0 hv3 hv12 hY KD
  · rw [hf] at hK
    exact so_4 hz32 hz hr hi hpa hw G C h64 h107 hf hK hM hA hea hs hov hv hv0 hv3 hv12 hY KD
  · rw [hf] at hK
    exact so_5 hz32 hz hr hi hpa hw G C h64 h107 hf hK hM hA hea hs hov hv hv0 hv3 hv12 hY KD
  · rw [hf] at hK
    exact so_6 hz32 hz hr hi hpa hw G C h64 h107 hf hK hM hA hea hs hov hv hv0 hv3 hv12 hY KD
  · rw [hf] at hK
    exact so_7 hz32 hz hr hi hpa hw G C h64 h107 hf hK hM hA hea hs hov hv hv0 hv3 hv12 hY KD
  · rw [hf] at hK
    exact so_8 hz32 hz hr hi hpa hw G C h64 h107 hf hK hM hA hea hs hov hv hv0 hv3 hv12 hY KD
  · rw [hf] at hK
    exact so_9 hz32 hz hr hi hpa hw G C h64 h107 hf hK hM hA hea hs hov hv hv0 hv3 hv12 hY KD KT
  · rw [hf] at hK
    exact so_10 hz32 hz hr hi hpa hw G C h64 h107 hf hK hM hA hea hs hov hv hv0 hv3 hv12 hY KD
theorem so_op (hz32 : 32 ≤ sz) (hz : sz ≤ 256) (hr : r < 8) (hi : idx < 128) (hpa : pa < sz) (hw : wn < 65536) (G : sp_G f_regA f_regX f_regS y_fl f_flagBits f_znPending f_znResult f_cvKind f_cvLeft f_cvRight f_cvWide f_inHead f_inSize f_outHead f_outSize a_mem a_inQueue a_outQueue y_inp y_outp) (C : ca_CI sz g a_mem a_marks a_blockStart a_blockCount a_links a_entry a_cover a_opKind a_opMode a_opArg) (h64 : 64 ≤ wn / 256) (h107 : wn / 256 ≤ 107) (hm1 : ¬ wn / 256 % 4 = 1 ∨ wn % 256 < sz) (hK : a_opKind idx = nI (64 + (wn / 256 - 64) / 4)) (hM : a_opMode idx = nI (wn / 256 % 4)) (hA : a_opArg idx = nI (wn % 256)) (KD : sp_KD post sz r idx pa wn g y_ex y_fl y_scr y_vc y_inp y_outp f_size f_executedCount f_regA f_regX f_regS f_pc f_flagBits f_znPending f_znResult f_cvKind f_cvLeft f_cvRight f_cvWide f_inHead f_inSize f_outHead f_outSize f_lastCode f_lastDetail f_cacheLimit f_lengthLimit f_hand f_running f_linkFrom f_exitKind f_controlDone f_trapCode f_trapDetail a_mem a_marks a_visitCount a_inQueue a_outQueue a_blockStart a_blockCount a_blockRecent a_links a_entry a_cover a_opKind a_opMode a_opArg) (KT : sp_KT post sz r pa wn y_ex y_fl y_scr y_vc y_inp y_outp f_size f_executedCount f_regA f_regX f_regS f_pc f_flagBits f_znPending f_znResult f_cvKind f_cvLeft f_cvRight f_cvWide f_inHead f_inSize f_outHead f_outSize f_lastCode f_lastDetail f_cacheLimit f_lengthLimit f_hand f_running f_linkFrom f_exitKind f_controlDone f_trapCode f_trapDetail a_mem a_marks a_visitCount a_inQueue a_outQueue a_blockStart a_blockCount a_blockRecent a_links a_entry a_cover a_opKind a_opMode a_opArg) : wpX_step post (nI sz, f_executedCount, f_regA, f_regX, f_regS, f_pc, f_flagBits, f_znPending, f_znResult, f_cvKind, f_cvLeft, f_cvRight, f_cvWide, f_inHead, f_inSize, f_outHead, f_outSize, f_lastCode, f_lastDetail, f_cacheLimit, f_lengthLimit, f_hand, nI r, -1, 0, 0, 0, 0, a_mem, a_marks, a_visitCount, a_inQueue, a_outQueue, a_blockStart, a_blockCount, a_blockRecent, a_links, a_entry, a_cover, a_opKind, a_opMode, a_opArg) (nI idx) (nI pa) := by
  have G' := G
  obtain ⟨wA, wX, wS, wM, hF, hI, hO⟩ := G'
  have hz0 : (0 : Int32) < nI sz := (nI_lt (a := 0) (by omega) (by omega))
  have hm : wn / 256 % 4 = 0 ∨ wn / 256 % 4 = 1 ∨ wn / 256 % 4 = 2 ∨ wn / 256 % 4 = 3 := by omega
  rcases hm with hm | hm | hm | hm
  · rw [hm] at hM
    exact so_all (m := 0) (e := 0) (v := nI (wn % 256)) (x5 := -1) (x6 := 0) hz32 hz hr hi hpa hw G C h64 h107 hK hM hA (fun P hP => xs_ea0 hP) hz0 (fun P hP => xs_ov0 hP) (ab_Wn (by omega)) (fun _ => rfl) (fun q => by omega) (fun q => by omega) (fun pY h => yt_none hw rfl (sp_zm (by omega)) (fun P hP => ya_op0 h64 h107 hm rfl hP) h) KD KT
  · rw [hm] at hM
    have hn : wn % 256 < sz := hm1.resolve_left (fun q => q hm)
    have hs : nI (wn % 256) < nI sz := nI_lt hn (by omega)
    exact so_all (m := 1) (e := nI (wn % 256)) (v := a_mem (wn % 256)) (x5 := nI (wn % 256)) (x6 := a_mem (wn % 256)) hz32 hz hr hi hpa hw G C h64 h107 hK hM hA (fun P hP => xs_ea1 hP) hs (fun P hP => xs_ovm (by decide) (by decide) (by omega) hP) (wM _) (fun q => by omega) (fun q => by omega) (fun _ => rfl) (fun pY h => yt_addr hw rfl (by omega) hs (fun P hP => ya_op1 h64 h107 hm rfl hP) h) KD KT
  · rw [hm] at hM
    obtain ⟨a, ha, ea⟩ := ab_Wand (nI (wn % 256) + f_regX)
    by_cases hlt : a < sz
    · have hs : nI a < nI sz := nI_lt hlt (by omega)
      exact so_all (m := 2) (e := nI a) (v := a_mem a) (x5 := nI a) (x6 := a_mem a) hz32 hz hr hi hpa hw G C h64 h107 hK hM hA (fun P hP => xs_ea2 ea hP) hs (fun P hP => xs_ovm (by decide) (by decide) (by omega) hP) (wM _) (fun q => by omega) (fun q => by omega) (fun _ => rfl) (fun pY h => yt_addr hw rfl (by omega) hs (fun P hP => ya_op2 h64 h107 hm ea hP) h) KD KT
    · have hs : ¬ nI a < nI sz := nI_nlt (by omega) (by omega)
      refine xk_A2 hi hK hM hA (nI_lt (b := 200) (by omega) (by decide)) ea hs ?_
      refine KT 9 _ (by decide) ?_
      intro pY h
      refine yt_trap hw rfl hs (fun P hP => ya_op2 h64 h107 hm ea hP) ?_
      exact h
  · rw [hm] at hM
    exact so_all (m := 3) (e := 0) (v := f_regX) (x5 := -1) (x6 := 0) hz32 hz hr hi hpa hw G C h64 h107 hK hM hA (fun P hP => xs_ea3 hP) hz0 (fun P hP => xs_ov3 hP) wX (fun q => by omega) (fun _ => rfl) (fun q => by omega) (fun pY h => yt_none hw rfl (sp_zm (by omega)) (fun P hP => ya_op3 h64 h107 hm rfl hP) h) KD KT
theorem sp_step (hz32 : 32 ≤ sz) (hz : sz ≤ 256) (hr : r < 8) (hi : idx < 128) (hpa : pa < sz) (hw : wn < 65536) (G : sp_G f_regA f_regX f_regS y_fl f_flagBits f_znPending f_znResult f_cvKind f_cvLeft f_cvRight f_cvWide f_inHead f_inSize f_outHead f_outSize a_mem a_inQueue a_outQueue y_inp y_outp) (C : ca_CI sz g a_mem a_marks a_blockStart a_blockCount a_links a_entry a_cover a_opKind a_opMode a_opArg) (hK : a_opKind idx = nI (dc_D sz wn).1) (hM : a_opMode idx = nI (dc_D sz wn).2.1) (hA : a_opArg idx = nI (dc_D sz wn).2.2) (KD : sp_KD post sz r idx pa wn g y_ex y_fl y_scr y_vc y_inp y_outp f_size f_executedCount f_regA f_regX f_regS f_pc f_flagBits f_znPending f_znResult f_cvKind f_cvLeft f_cvRight f_cvWide f_inHead f_inSize f_outHead f_outSize f_lastCode f_lastDetail f_cacheLimit f_lengthLimit f_hand f_running f_linkFrom f_exitKind f_controlDone f_trapCode f_trapDetail a_mem a_marks a_visitCount a_inQueue a_outQueue a_blockStart a_blockCount a_blockRecent a_links a_entry a_cover a_opKind a_opMode a_opArg) (KT : sp_KT post sz r pa wn y_ex y_fl y_scr y_vc y_inp y_outp f_size f_executedCount f_regA f_regX f_regS f_pc f_flagBits f_znPending f_znResult f_cvKind f_cvLeft f_cvRight f_cvWide f_inHead f_inSize f_outHead f_outSize f_lastCode f_lastDetail f_cacheLimit f_lengthLimit f_hand f_running f_linkFrom f_exitKind f_controlDone f_trapCode f_trapDetail a_mem a_marks a_visitCount a_inQueue a_outQueue a_blockStart a_blockCount a_blockRecent a_links a_entry a_cover a_opKind a_opMode a_opArg) : wpX_step post (nI sz, f_executedCount, f_regA, f_regX, f_regS, f_pc, f_flagBits, f_znPending, f_znResult, f_cvKind, f_cvLeft, f_cvRight, f_cvWide, f_inHead, f_inSize, f_outHead, f_outSize, f_lastCode, f_lastDetail, f_cacheLimit, f_lengthLimit, f_hand, nI r, -1, 0, 0, 0, 0, a_mem, a_marks, a_visitCount, a_inQueue, a_outQueue, a_blockStart, a_blockCount, a_blockRecent, a_links, a_entry, a_cover, a_opKind, a_opMode, a_opArg) (nI idx) (nI pa) := by
  have ho256 : wn / 256 < 256 := by omega
  by_cases q0 : wn / 256 = 0
  · have e : dc_D sz wn = (202, 0, 0) := by unfold dc_D; rw [if_pos q0]
    rw [e] at hK hM hA
    exact sc_0 hz32 hz hr hi hpa hw G C q0 hK hM hA KT
  by_cases q1 : wn / 256 ≤ 10
  · have e : dc_D sz wn = (wn / 256, 0, wn % 256) := by unfold dc_D; rw [if_neg q0, if_pos q1]
    rw [e] at hK hM hA
    have hx : wn / 256 = 1 ∨ wn / 256 = 2 ∨ wn / 256 = 3 ∨ wn / 256 = 4 ∨ wn / 256 = 5 ∨ wn / 256 = 6 ∨ wn / 256 = 7 ∨ wn / 256 = 8 ∨ wn / 256 = 9 ∨ wn / 256 = 10 := by omega
    rcases hx with hx | hx | hx | hx | hx | hx | hx | hx | hx | hx
    · rw [hx] at hK
      exact sc_1 hz32 hz hr hi hpa hw G C hx hK hM hA KD
    · rw [hx] at hK
      exact sc_2 hz32 hz hr hi hpa hw G C hx hK hM hA KD
    · rw [hx] at hK
      exact sc_3 hz32 hz hr hi hpa hw G C hx hK hM hA KD
    · rw [hx] at hK
      exact sc_4 hz32 hz hr hi hpa hw G C hx hK hM hA KD
    · rw [hx] at hK
      exact sc_5 hz32 hz hr hi hpa hw G C hx hK hM hA KD
    · rw [hx] at hK
      exact sc_6 hz32 hz hr hi hpa hw G C hx hK hM hA KD
    · rw [hx] at hK
      exact sc_7 hz32 hz hr hi hpa hw G C hx hK hM hA KD
    · rw [hx] at hK
      exact sc_8 hz32 hz hr hi hpa hw G C hx hK hM hA KD
    · rw [hx] at hK
      exact sc_9 hz32 hz hr hi hpa hw G C hx hK hM hA KD KT
    · rw [hx] at hK
      exact sc_10 hz32 hz hr hi hpa hw G C hx hK hM hA KD KT
  by_cases q2 : 16 ≤ wn / 256 ∧ wn / 256 ≤ 29
  · have e : dc_D sz wn = (wn / 256, (if wn / 256 = 18 then 4 else if wn / 256 = 19 then 5 else 0), wn % 256) := by unfold dc_D; rw [if_neg q0, if_neg q1, if_pos q2]
    rw [e] at hK hM hA
    have hx : wn / 256 = 16 ∨ wn / 256 = 17 ∨ wn / 256 = 18 ∨ wn / 256 = 19 ∨ wn / 256 = 20 ∨ wn / 256 = 21 ∨ wn / 256 = 22 ∨ wn / 256 = 23 ∨ wn / 256 = 24 ∨ wn / 256 = 25 ∨ wn / 256 = 26 ∨ wn / 256 = 27 ∨ wn / 256 = 28 ∨ wn / 256 = 29 := by omega
    rcases hx with hx | hx | hx | hx | hx | hx | hx | hx | hx | hx | hx | hx | hx | hx
    · have hM' : a_opMode idx = nI 0 := by
        rw [hM]; show nI (if wn / 256 = 18 then 4 else if wn / 256 = 19 then 5 else 0) = _; rw [if_neg (by omega), if_neg (by omega)]
      rw [hx] at hK
      exact sc_16 hz32 hz hr hi hpa hw G C hx hK hM' hA KD
    · have hM' : a_opMode idx = nI 0 := by
        rw [hM]; show nI (if wn / 256 = 18 then 4 else if wn / 256 = 19 then 5 else 0) = _; rw [if_neg (by omega), if_neg (by omega)]
      rw [hx] at hK
      exact sc_17 hz32 hz hr hi hpa hw G C hx hK hM' hA KD
    · have hM' : a_opMode idx = nI 4 := by
        rw [hM]; show nI (if wn / 256 = 18 then 4 else if wn / 256 = 19 then 5 else 0) = _; rw [if_pos hx]
      rw [hx] at hK
      exact sc_18 hz32 hz hr hi hpa hw G C hx hK hM' hA KD KT
    · have hM' : a_opMode idx = nI 5 := by
        rw [hM]; show nI (if wn / 256 = 18 then 4 else if wn / 256 = 19 then 5 else 0) = _; rw [if_neg (by omega), if_pos hx]
      rw [hx] at hK
      exact sc_19 hz32 hz hr hi hpa hw G C hx hK hM' hA KD KT
    · have hM' : a_opMode idx = nI 0 := by
        rw [hM]; show nI (if wn / 256 = 18 then 4 else if wn / 256 = 19 then 5 else 0) = _; rw [if_neg (by omega), if_neg (by omega)]
      rw [hx] at hK
      exact sc_20 hz32 hz hr hi hpa hw G C hx hK hM' hA KD
    · have hM' : a_opMode idx = nI 0 := by
        rw [hM]; show nI (if wn / 256 = 18 then 4 else if wn / 256 = 19 then 5 else 0) = _; rw [if_neg (by omega), if_neg (by omega)]
      rw [hx] at hK
      exact sc_21 hz32 hz hr hi hpa hw G C hx hK hM' hA KD
    · have hM' : a_opMode idx = nI 0 := by
        rw [hM]; show nI (if wn / 256 = 18 then 4 else if wn / 256 = 19 then 5 else 0) = _; rw [if_neg (by omega), if_neg (by omega)]
      rw [hx] at hK
      exact sc_22 hz32 hz hr hi hpa hw G C hx hK hM' hA KD
    · have hM' : a_opMode idx = nI 0 := by
        rw [hM]; show nI (if wn / 256 = 18 then 4 else if wn / 256 = 19 then 5 else 0) = _; rw [if_neg (by omega), if_neg (by omega)]
      rw [hx] at hK
      exact sc_23 hz32 hz hr hi hpa hw G C hx hK hM' hA KD
    · have hM' : a_opMode idx = nI 0 := by
        rw [hM]; show nI (if wn / 256 = 18 then 4 else if wn / 256 = 19 then 5 else 0) = _; rw [if_neg (by omega), if_neg (by omega)]
      rw [hx] at hK
      exact sc_24 hz32 hz hr hi hpa hw G C hx hK hM' hA KD
    · have hM' : a_opMode idx = nI 0 := by
        rw [hM]; show nI (if wn / 256 = 18 then 4 else if wn / 256 = 19 then 5 else 0) = _; rw [if_neg (by omega), if_neg (by omega)]
      rw [hx] at hK
      exact sc_25 hz32 hz hr hi hpa hw G C hx hK hM' hA KD
    · have hM' : a_opMode idx = nI 0 := by
        rw [hM]; show nI (if wn / 256 = 18 then 4 else if wn / 256 = 19 then 5 else 0) = _; rw [if_neg (by omega), if_neg (by omega)]
      rw [hx] at hK
      exact sc_26 hz32 hz hr hi hpa hw G C hx hK hM' hA KD
    · have hM' : a_opMode idx = nI 0 := by
        rw [hM]; show nI (if wn / 256 = 18 then 4 else if wn / 256 = 19 then 5 else 0) = _; rw [if_neg (by omega), if_neg (by omega)]
      rw [hx] at hK
      exact sc_27 hz32 hz hr hi hpa hw G C hx hK hM' hA KD
    · have hM' : a_opMode idx = nI 0 := by
        rw [hM]; show nI (if wn / 256 = 18 then 4 else if wn / 256 = 19 then 5 else 0) = _; rw [if_neg (by omega), if_neg (by omega)]
      rw [hx] at hK
      exact sc_28 hz32 hz hr hi hpa hw G C hx hK hM' hA KD
    · have hM' : a_opMode idx = nI 0 := by
        rw [hM]; show nI (if wn / 256 = 18 then 4 else if wn / 256 = 19 then 5 else 0) = _; rw [if_neg (by omega), if_neg (by omega)]
      rw [hx] at hK
      exact sc_29 hz32 hz hr hi hpa hw G C hx hK hM' hA KD
  by_cases q3 : 32 ≤ wn / 256 ∧ wn / 256 ≤ 40
  · have hx : wn / 256 = 32 ∨ wn / 256 = 33 ∨ wn / 256 = 34 ∨ wn / 256 = 35 ∨ wn / 256 = 36 ∨ wn / 256 = 37 ∨ wn / 256 = 38 ∨ wn / 256 = 39 ∨ wn / 256 = 40 := by omega
    rcases hx with hx | hx | hx | hx | hx | hx | hx | hx | hx
    · by_cases hn : wn % 256 < sz
      · have e : dc_D sz wn = (32, 1, wn % 256) := by unfold dc_D; rw [if_neg q0, if_neg q1, if_neg q2, if_pos q3, if_neg (by omega), if_neg (by omega), if_neg (by omega), if_neg (by omega), if_pos hn, hx]
        rw [e] at hK hM hA
        exact sc_32i hz32 hz hr hi hpa hw G C hx hK hM hA rfl hn KD
      · have e : dc_D sz wn = (209, 0, wn % 256) := by unfold dc_D; rw [if_neg q0, if_neg q1, if_neg q2, if_pos q3, if_neg (by omega), if_neg (by omega), if_neg (by omega), if_neg (by omega), if_neg hn]
        rw [e] at hK hM hA
        exact sc_32T hz32 hz hr hi hpa hw G C hx (by omega) hK hM hA KT
    · have e : dc_D sz wn = (32, 2, wn % 256) := by unfold dc_D; rw [if_neg q0, if_neg q1, if_neg q2, if_pos q3, if_pos hx]
      rw [e] at hK hM hA
      exact sc_33 hz32 hz hr hi hpa hw G C hx hK hM hA KD KT
    · by_cases hn : wn % 256 < sz
      · have e : dc_D sz wn = (34, 1, wn % 256) := by unfold dc_D; rw [if_neg q0, if_neg q1, if_neg q2, if_pos q3, if_neg (by omega), if_neg (by omega), if_neg (by omega), if_neg (by omega), if_pos hn, hx]
        rw [e] at hK hM hA
        exact sc_34i hz32 hz hr hi hpa hw G C hx hK hM hA rfl hn KD
      · have e : dc_D sz wn = (209, 0, wn % 256) := by unfold dc_D; rw [if_neg q0, if_neg q1, if_neg q2, if_pos q3, if_neg (by omega), if_neg (by omega), if_neg (by omega), if_neg (by omega), if_neg hn]
        rw [e] at hK hM hA
        exact sc_34T hz32 hz hr hi hpa hw G C hx (by omega) hK hM hA KT
    · by_cases hn : wn % 256 < sz
      · have e : dc_D sz wn = (35, 1, wn % 256) := by unfold dc_D; rw [if_neg q0, if_neg q1, if_neg q2, if_pos q3, if_neg (by omega), if_neg (by omega), if_neg (by omega), if_neg (by omega), if_pos hn, hx]
        rw [e] at hK hM hA
        exact sc_35i hz32 hz hr hi hpa hw G C hx hK hM hA rfl hn KD
      · have e : dc_D sz wn = (209, 0, wn % 256) := by unfold dc_D; rw [if_neg q0, if_neg q1, if_neg q2, if_pos q3, if_neg (by omega), if_neg (by omega), if_neg (by omega), if_neg (by omega), if_neg hn]
        rw [e] at hK hM hA
        exact sc_35T hz32 hz hr hi hpa hw G C hx (by omega) hK hM hA KT
    · have e : dc_D sz wn = (35, 2, wn % 256) := by unfold dc_D; rw [if_neg q0, if_neg q1, if_neg q2, if_pos q3, if_neg (by omega), if_pos hx]
      rw [e] at hK hM hA
      exact sc_36 hz32 hz hr hi hpa hw G C hx hK hM hA KD KT
    · have e : dc_D sz wn = (37, 4, wn % 256) := by unfold dc_D; rw [if_neg q0, if_neg q1, if_neg q2, if_pos q3, if_neg (by omega), if_neg (by omega), if_pos (by omega), hx]
      rw [e] at hK hM hA
      exact sc_37 hz32 hz hr hi hpa hw G C hx hK hM hA KD KT
    · have e : dc_D sz wn = (38, 5, wn % 256) := by unfold dc_D; rw [if_neg q0, if_neg q1, if_neg q2, if_pos q3, if_neg (by omega), if_neg (by omega), if_neg (by omega), if_pos (by omega), hx]
      rw [e] at hK hM hA
      exact sc_38 hz32 hz hr hi hpa hw G C hx hK hM hA KD KT
    · have e : dc_D sz wn = (39, 4, wn % 256) := by unfold dc_D; rw [if_neg q0, if_neg q1, if_neg q2, if_pos q3, if_neg (by omega), if_neg (by omega), if_pos (by omega), hx]
      rw [e] at hK hM hA
      exact sc_39 hz32 hz hr hi hpa hw G C hx hK hM hA KD KT
    · have e : dc_D sz wn = (40, 5, wn % 256) := by unfold dc_D; rw [if_neg q0, if_neg q1, if_neg q2, if_pos q3, if_neg (by omega), if_neg (by omega), if_neg (by omega), if_pos (by omega), hx]
      rw [e] at hK hM hA
      exact sc_40 hz32 hz hr hi hpa hw G C hx hK hM hA KD KT
  by_cases q4 : 64 ≤ wn / 256 ∧ wn / 256 ≤ 107
  · by_cases q5 : wn / 256 % 4 = 1
    · by_cases q6 : wn % 256 < sz
      · have e : dc_D sz wn = (64 + (wn / 256 - 64) / 4, 1, wn % 256) := by unfold dc_D; rw [if_neg q0, if_neg q1, if_neg q2, if_neg q3, if_pos q4, if_pos q5, if_pos q6]
        rw [e] at hK hM hA
        refine so_op hz32 hz hr hi hpa hw G C q4.1 q4.2 (Or.inr q6) hK ?_ hA KD KT
        rw [q5]; exact hM
      · have e : dc_D sz wn = (209, 0, wn % 256) := by unfold dc_D; rw [if_neg q0, if_neg q1, if_neg q2, if_neg q3, if_pos q4, if_pos q5, if_neg q6]
        rw [e] at hK hM hA
        exact sc_op1T hz32 hz hr hi hpa hw G C q4.1 q4.2 q5 (by omega) hK hM hA KT
    · by_cases q6 : (wn / 256 - 64) / 4 = 9 ∧ wn / 256 % 4 = 0 ∧ wn % 256 = 0
      · have e : dc_D sz wn = (210, 0, 0) := by unfold dc_D; rw [if_neg q0, if_neg q1, if_neg q2, if_neg q3, if_pos q4, if_neg q5, if_pos q6]
        rw [e] at hK hM hA
        exact sc_div0 hz32 hz hr hi hpa hw G C q4.1 q4.2 q6.1 q6.2.1 q6.2.2 hK hM hA KT
      · have e : dc_D sz wn = (64 + (wn / 256 - 64) / 4, wn / 256 % 4, wn % 256) := by unfold dc_D; rw [if_neg q0, if_neg q1, if_neg q2, if_neg q3, if_pos q4, if_neg q5, if_neg q6]
        rw [e] at hK hM hA
        exact so_op hz32 hz hr hi hpa hw G C q4.1 q4.2 (Or.inl q5) hK hM hA KD KT
  · have e : dc_D sz wn = (208, 0, wn) := by unfold dc_D; rw [if_neg q0, if_neg q1, if_neg q2, if_neg q3, if_neg q4]
    rw [e] at hK hM hA
    by_cases q5 : 41 ≤ wn / 256
    · exact sc_ill hz32 hz hr hi hpa hw G C q5 (by omega) hK hM hA KT
    · have hx : wn / 256 = 11 ∨ wn / 256 = 12 ∨ wn / 256 = 13 ∨ wn / 256 = 14 ∨ wn / 256 = 15 ∨ wn / 256 = 30 ∨ wn / 256 = 31 := by omega
      rcases hx with hx | hx | hx | hx | hx | hx | hx
      · exact sc_11 hz32 hz hr hi hpa hw G C hx hK hM hA KT
      · exact sc_12 hz32 hz hr hi hpa hw G C hx hK hM hA KT
      · exact sc_13 hz32 hz hr hi hpa hw G C hx hK hM hA KT
      · exact sc_14 hz32 hz hr hi hpa hw G C hx hK hM hA KT
      · exact sc_15 hz32 hz hr hi hpa hw G C hx hK hM hA KT
      · exact sc_30 hz32 hz hr hi hpa hw G C hx hK hM hA KT
      · exact sc_31 hz32 hz hr hi hpa hw G C hx hK hM hA KT
end SP
end
section
/-! Y's run loop: one instruction; the count of visits -/
section RY
variable {f_inSize f_outSize f_size f_regA f_regX f_regS f_pc y_fl f_executedCount f_lastCode f_lastDetail : Int32} {a_mem y_scr a_visitCount a_marks y_inp y_outp : Nat → Int32}
/-- what Y asks behind a completed instruction: the mark, the branch, the next round -/
def ry_M (post : Int32 → SY → Prop) (x1 x2 : Int32) (n : Nat) (x3 x5 : Int32) (f_inSize f_outSize f_size f_regA f_regX f_regS f_pc y_fl f_executedCount f_lastCode f_lastDetail : Int32) (a_mem y_scr a_visitCount a_marks y_inp y_outp : Nat → Int32) : Prop :=
  (f_size ≤ f_pc → wY_runUntilStop_116 post (wY_runUntilStop_2 post x1 x2 n) x1 x2 x3 x5 f_inSize f_outSize f_size f_regA f_regX f_regS f_pc y_fl f_executedCount f_lastCode f_lastDetail a_mem y_scr a_visitCount a_marks y_inp y_outp) ∧
  (¬ f_size ≤ f_pc → (vp_in f_pc 256 ∧ ((a_marks f_pc.toNatClampNeg = 0 → wY_runUntilStop_116 post (wY_runUntilStop_2 post x1 x2 n) x1 x2 x3 x5 f_inSize f_outSize f_size f_regA f_regX f_regS f_pc y_fl f_executedCount f_lastCode f_lastDetail a_mem y_scr a_visitCount a_marks y_inp y_outp) ∧ (¬ a_marks f_pc.toNatClampNeg = 0 → post 3 (f_inSize, f_outSize, f_size, f_regA, f_regX, f_regS, f_pc, y_fl, f_executedCount, f_lastCode, f_pc, a_mem, y_scr, a_visitCount, a_marks, y_inp, y_outp)))))
theorem ry_step {post : Int32 → SY → Prop} {x2 : Int32} {n k fuel p sz wn : Nat} {yp is os A X S fl : Int32} {mem inp outp : Nat → Int32} (hk : k < fuel) (hf : fuel < 2 ^ 31) (hp : p < sz) (hz : sz ≤ 256) (hm : a_mem p = nI wn)
    (hs : ∀ pY : Int32 → SY → Prop, pY 0 (is, os, nI sz, A, X, S, yp, fl, f_executedCount, f_lastCode, f_lastDetail, mem, y_scr, a_visitCount, a_marks, inp, outp) → wpY_step pY (f_inSize, f_outSize, nI sz, f_regA, f_regX, f_regS, nI p, y_fl, f_executedCount, f_lastCode, f_lastDetail, a_mem, y_scr, a_visitCount, a_marks, y_inp, y_outp) (nI p) (nI wn))
    (K : ry_M post (nI fuel) x2 n (nI k) (nI wn) is os (nI sz) A X S yp fl (f_executedCount + 1) f_lastCode f_lastDetail mem y_scr (upd a_visitCount p (a_visitCount p + 1)) a_marks inp outp) :
    wY_runUntilStop_2 post (nI fuel) x2 (n + 1) (nI k) f_inSize f_outSize (nI sz) f_regA f_regX f_regS (nI p) y_fl f_executedCount f_lastCode f_lastDetail a_mem y_scr a_visitCount a_marks y_inp y_outp := by
  have hin : vp_in (nI p) 256 := vp_in_nI (by omega) (by decide)
  have ec : (nI p).toNatClampNeg = p := nI_clamp (by omega)
  refine br_f (nI_ge hk hf) ?_
  refine br_t (nI_lt hp (by omega)) ?_
  refine And.intro hin ?_
  refine nm_r (e' := nI wn) (by rw [ec]; exact hm) ?_
  refine hs _ ?_
  refine br_t rfl ?_
  refine nm_e ?_
  refine And.intro hin ?_
  refine And.intro hin ?_
  refine nm_r (e' := upd a_visitCount p (a_visitCount p + 1)) (by rw [ec]) ?_
  exact K
theorem ry_trap {post : Int32 → SY → Prop} {x2 code detail : Int32} {n k fuel p sz wn : Nat} (hk : k < fuel) (hf : fuel < 2 ^ 31) (hp : p < sz) (hz : sz ≤ 256) (hm : a_mem p = nI wn) (hc : code ≠ 0)
    (hs : ∀ pY : Int32 → SY → Prop, pY code (f_inSize, f_outSize, nI sz, f_regA, f_regX, f_regS, nI p, y_fl, f_executedCount, f_lastCode, detail, a_mem, y_scr, a_visitCount, a_marks, y_inp, y_outp) → wpY_step pY (f_inSize, f_outSize, nI sz, f_regA, f_regX, f_regS, nI p, y_fl, f_executedCount, f_lastCode, f_lastDetail, a_mem, y_scr, a_visitCount, a_marks, y_inp, y_outp) (nI p) (nI wn))
    (h : post code (f_inSize, f_outSize, nI sz, f_regA, f_regX, f_regS, nI p, y_fl, f_executedCount, f_lastCode, detail, a_mem, y_scr, a_visitCount, a_marks, y_inp, y_outp)) :
    wY_runUntilStop_2 post (nI fuel) x2 (n + 1) (nI k) f_inSize f_outSize (nI sz) f_regA f_regX f_regS (nI p) y_fl f_executedCount f_lastCode f_lastDetail a_mem y_scr a_visitCount a_marks y_inp y_outp := by
  have hin : vp_in (nI p) 256 := vp_in_nI (by omega) (by decide)
  have ec : (nI p).toNatClampNeg = p := nI_clamp (by omega)
  refine br_f (nI_ge hk hf) ?_
  refine br_t (nI_lt hp (by omega)) ?_
  refine And.intro hin ?_
  refine nm_r (e' := nI wn) (by rw [ec]; exact hm) ?_
  refine hs _ ?_
  exact br_f hc h
theorem ry_116 {post : Int32 → SY → Prop} {x1 x2 : Int32} {n k wn : Nat} (hw : wn < 65536) (hb : x2 = 0 ∨ ¬ (16 ≤ wn / 256 ∧ wn / 256 ≤ 29)) (K : wY_runUntilStop_2 post x1 x2 n (nI (k + 1)) f_inSize f_outSize f_size f_regA f_regX f_regS f_pc y_fl f_executedCount f_lastCode f_lastDetail a_mem y_scr a_visitCount a_marks y_inp y_outp) :
    wY_runUntilStop_116 post (wY_runUntilStop_2 post x1 x2 n) x1 x2 (nI k) (nI wn) f_inSize f_outSize f_size f_regA f_regX f_regS f_pc y_fl f_executedCount f_lastCode f_lastDetail a_mem y_scr a_visitCount a_marks y_inp y_outp := by
  refine nm_r (dc_o hw) ?_
  have K' : ∀ x3 : Int32, x3 = nI k + 1 → wY_runUntilStop_2 post x1 x2 n x3 f_inSize f_outSize f_size f_regA f_regX f_regS f_pc y_fl f_executedCount f_lastCode f_lastDetail a_mem y_scr a_visitCount a_marks y_inp y_outp := nm_r (nI_1 k) K
  refine br_c (fun _ => K') (fun h => ?_)
  refine pk_lt (wn / 256) 16 (fun _ => K') (fun l => ?_)
  refine pk_lt 29 (wn / 256) (fun _ => K') (fun l2 => ?_)
  exact absurd (hb.resolve_left h) (by omega)
theorem ry_next {post : Int32 → SY → Prop} {x1 x2 : Int32} {n k wn q sz : Nat} (hw : wn < 65536) (hz : sz ≤ 256) (hq : q < 65536) (hb : x2 = 0 ∨ ¬ (16 ≤ wn / 256 ∧ wn / 256 ≤ 29)) (hm : q < sz → a_marks q = 0) (K : wY_runUntilStop_2 post x1 x2 n (nI (k + 1)) f_inSize f_outSize (nI sz) f_regA f_regX f_regS (nI q) y_fl f_executedCount f_lastCode f_lastDetail a_mem y_scr a_visitCount a_marks y_inp y_outp) :
    ry_M post x1 x2 n (nI k) (nI wn) f_inSize f_outSize (nI sz) f_regA f_regX f_regS (nI q) y_fl f_executedCount f_lastCode f_lastDetail a_mem y_scr a_visitCount a_marks y_inp y_outp := by
  refine pk_le sz q (fun l => ?_) (fun l => ?_)
  · exact ry_116 hw hb K
  · refine And.intro (vp_in_nI (by omega) (by decide)) ?_
    refine br_t (by rw [nI_clamp (by omega)]; exact hm l) ?_
    exact ry_116 hw hb K
theorem ry_mark {post : Int32 → SY → Prop} {x1 x2 x3 x5 : Int32} {n q sz : Nat} (hz : sz ≤ 256) (hq : q < sz) (hm : ¬ a_marks q = 0) (h : post 3 (f_inSize, f_outSize, nI sz, f_regA, f_regX, f_regS, nI q, y_fl, f_executedCount, f_lastCode, nI q, a_mem, y_scr, a_visitCount, a_marks, y_inp, y_outp)) :
    ry_M post x1 x2 n x3 x5 f_inSize f_outSize (nI sz) f_regA f_regX f_regS (nI q) y_fl f_executedCount f_lastCode f_lastDetail a_mem y_scr a_visitCount a_marks y_inp y_outp := by
  refine pk_le sz q (fun l => by omega) (fun l => ?_)
  refine And.intro (vp_in_nI (by omega) (by decide)) ?_
  exact br_f (by rw [nI_clamp (by omega)]; exact hm) h
theorem ry_branch {post : Int32 → SY → Prop} {x1 x2 x3 : Int32} {n q sz wn : Nat} (hw : wn < 65536) (hz : sz ≤ 256) (hq : q < 65536) (hb : ¬ x2 = 0) (hc : 16 ≤ wn / 256 ∧ wn / 256 ≤ 29) (hm : q < sz → a_marks q = 0) (h : post 4 (f_inSize, f_outSize, nI sz, f_regA, f_regX, f_regS, nI q, y_fl, f_executedCount, f_lastCode, nI q, a_mem, y_scr, a_visitCount, a_marks, y_inp, y_outp)) :
    ry_M post x1 x2 n x3 (nI wn) f_inSize f_outSize (nI sz) f_regA f_regX f_regS (nI q) y_fl f_executedCount f_lastCode f_lastDetail a_mem y_scr a_visitCount a_marks y_inp y_outp := by
  have W : wY_runUntilStop_116 post (wY_runUntilStop_2 post x1 x2 n) x1 x2 x3 (nI wn) f_inSize f_outSize (nI sz) f_regA f_regX f_regS (nI q) y_fl f_executedCount f_lastCode f_lastDetail a_mem y_scr a_visitCount a_marks y_inp y_outp := by
    refine nm_r (dc_o hw) ?_
    refine br_f hb ?_
    refine br_f (nI_nlt (b := 16) hc.1 (by omega)) ?_
    refine br_f (nI_nlt (a := 29) hc.2 (by decide)) ?_
    refine ys_stop ?_
    exact h
  refine pk_le sz q (fun l => W) (fun l => ?_)
  refine And.intro (vp_in_nI (by omega) (by decide)) ?_
  exact br_t (by rw [nI_clamp (by omega)]; exact hm l) W
theorem ry_fuel {post : Int32 → SY → Prop} {x1 x2 x3 : Int32} {n : Nat} (h1 : x1 ≤ x3) (h : post 1 (f_inSize, f_outSize, f_size, f_regA, f_regX, f_regS, f_pc, y_fl, f_executedCount, f_lastCode, 0, a_mem, y_scr, a_visitCount, a_marks, y_inp, y_outp)) : wY_runUntilStop_2 post x1 x2 (n + 1) x3 f_inSize f_outSize f_size f_regA f_regX f_regS f_pc y_fl f_executedCount f_lastCode f_lastDetail a_mem y_scr a_visitCount a_marks y_inp y_outp :=
  br_t h1 (ys_stop h)
theorem ry_fetch {post : Int32 → SY → Prop} {x1 x2 x3 : Int32} {n : Nat} (h1 : ¬ x1 ≤ x3) (h2 : ¬ f_pc < f_size) (h : post 7 (f_inSize, f_outSize, f_size, f_regA, f_regX, f_regS, f_pc, y_fl, f_executedCount, f_lastCode, f_pc, a_mem, y_scr, a_visitCount, a_marks, y_inp, y_outp)) : wY_runUntilStop_2 post x1 x2 (n + 1) x3 f_inSize f_outSize f_size f_regA f_regX f_regS f_pc y_fl f_executedCount f_lastCode f_lastDetail a_mem y_scr a_visitCount a_marks y_inp y_outp :=
  br_f h1 (br_f h2 (ys_stop h))
end RY
/-- the visits of i instructions from st on -/
def rn_vc (vc : Nat → Int32) (st i : Nat) : Nat → Int32 := fun a => if st ≤ a ∧ a < st + i then vc a + 1 else vc a
theorem rn_vc0 {vc : Nat → Int32} {st : Nat} : rn_vc vc st 0 = vc := by
  funext a
  exact if_neg (by omega)
theorem rn_vcs {vc : Nat → Int32} {st i : Nat} : upd (rn_vc vc st i) (st + i) (rn_vc vc st i (st + i) + 1) = rn_vc vc st (i + 1) := by
  funext a
  have e0 : rn_vc vc st i (st + i) = vc (st + i) := if_neg (by omega)
  rw [e0]
  by_cases e : a = st + i
  · subst e
    rw [pk_us]
    exact (if_pos (by omega)).symm
  · rw [pk_un e]
    unfold rn_vc
    by_cases q : st ≤ a ∧ a < st + i
    · rw [if_pos q, if_pos (by omega)]
    · rw [if_neg q, if_neg (by omega)]
section RX
variable {f_size f_executedCount f_regA f_regX f_regS f_pc f_flagBits f_znPending f_znResult f_cvKind f_cvLeft f_cvRight f_cvWide f_inHead f_inSize f_outHead f_outSize f_lastCode f_lastDetail f_cacheLimit f_lengthLimit f_hand f_running f_linkFrom f_exitKind f_controlDone f_trapCode f_trapDetail : Int32} {a_mem a_marks a_visitCount a_inQueue a_outQueue a_blockStart a_blockCount a_blockRecent a_links a_entry a_cover a_opKind a_opMode a_opArg : Nat → Int32}
theorem rx_acc {post : SX → Prop} {st m : Nat} {vc : Nat → Int32} (hm : st + m ≤ 256) (K : post (f_size, f_executedCount, f_regA, f_regX, f_regS, f_pc, f_flagBits, f_znPending, f_znResult, f_cvKind, f_cvLeft, f_cvRight, f_cvWide, f_inHead, f_inSize, f_outHead, f_outSize, f_lastCode, f_lastDetail, f_cacheLimit, f_lengthLimit, f_hand, f_running, f_linkFrom, f_exitKind, f_controlDone, f_trapCode, f_trapDetail, a_mem, a_marks, rn_vc vc st m, a_inQueue, a_outQueue, a_blockStart, a_blockCount, a_blockRecent, a_links, a_entry, a_cover, a_opKind, a_opMode, a_opArg)) : ∀ d i, i + d = m → ∀ n, d < n → wX_account_12 post (nI st) (nI m) f_size f_executedCount f_regA f_regX f_regS f_pc f_flagBits f_znPending f_znResult f_cvKind f_cvLeft f_cvRight f_cvWide f_inHead f_inSize f_outHead f_outSize f_lastCode f_lastDetail f_cacheLimit f_lengthLimit f_hand f_running f_linkFrom f_exitKind f_controlDone f_trapCode f_trapDetail n (nI i) a_mem a_marks (rn_vc vc st i) a_inQueue a_outQueue a_blockStart a_blockCount a_blockRecent a_links a_entry a_cover a_opKind a_opMode a_opArg := by
  intro d
  induction d with
  | zero =>
    intro i hi n hn
    obtain ⟨n, rfl⟩ : ∃ m, n = m + 1 := ⟨n - 1, by omega⟩
    have e : i = m := by omega
    subst e
    refine br_t (nI_le (by omega) (by omega)) ?_
    exact K
  | succ d ih =>
    intro i hi n hn
    obtain ⟨n, rfl⟩ : ∃ m, n = m + 1 := ⟨n - 1, by omega⟩
    have hin : vp_in (nI st + nI i) 256 := by rw [nI_add]; exact vp_in_nI (by omega) (by decide)
    have ec : (nI st + nI i).toNatClampNeg = st + i := by rw [nI_add]; exact nI_clamp (by omega)
    refine br_f (nI_ge (by omega) (by omega)) ?_
    refine And.intro hin ?_
    refine And.intro hin ?_
    refine nm_r (e' := rn_vc vc st (i + 1)) (by rw [ec]; exact rn_vcs) ?_
    refine nm_r (e' := nI (i + 1)) (nI_1 i) ?_
    exact ih (i + 1) (by omega) n (by omega)
theorem rx_183 {post : Int32 → SX → Prop} {st m : Nat} (hm : st + m ≤ 256) (K : post (nI m) (f_size, f_executedCount + nI m, f_regA, f_regX, f_regS, f_pc, f_flagBits, f_znPending, f_znResult, f_cvKind, f_cvLeft, f_cvRight, f_cvWide, f_inHead, f_inSize, f_outHead, f_outSize, f_lastCode, f_lastDetail, f_cacheLimit, f_lengthLimit, f_hand, -1, f_linkFrom, f_exitKind, f_controlDone, f_trapCode, f_trapDetail, a_mem, a_marks, rn_vc a_visitCount st m, a_inQueue, a_outQueue, a_blockStart, a_blockCount, a_blockRecent, a_links, a_entry, a_cover, a_opKind, a_opMode, a_opArg)) : wX_runBlock_183 post (nI st) (nI m) f_size f_executedCount f_regA f_regX f_regS f_pc f_flagBits f_znPending f_znResult f_cvKind f_cvLeft f_cvRight f_cvWide f_inHead f_inSize f_outHead f_outSize f_lastCode f_lastDetail f_cacheLimit f_lengthLimit f_hand f_running f_linkFrom f_exitKind f_controlDone f_trapCode f_trapDetail a_mem a_marks a_visitCount a_inQueue a_outQueue a_blockStart a_blockCount a_blockRecent a_links a_entry a_cover a_opKind a_opMode a_opArg := by
  refine nm_e ?_
  refine ⟨m + 1, ?_⟩
  have W := rx_acc (post := fun u => match u with | (f_size, f_executedCount, f_regA, f_regX, f_regS, f_pc, f_flagBits, f_znPending, f_znResult, f_cvKind, f_cvLeft, f_cvRight, f_cvWide, f_inHead, f_inSize, f_outHead, f_outSize, f_lastCode, f_lastDetail, f_cacheLimit, f_lengthLimit, f_hand, f_running, f_linkFrom, f_exitKind, f_controlDone, f_trapCode, f_trapDetail, a_mem, a_marks, a_visitCount, a_inQueue, a_outQueue, a_blockStart, a_blockCount, a_blockRecent, a_links, a_entry, a_cover, a_opKind, a_opMode, a_opArg) => post (nI m) (f_size, f_executedCount, f_regA, f_regX, f_regS, f_pc, f_flagBits, f_znPending, f_znResult, f_cvKind, f_cvLeft, f_cvRight, f_cvWide, f_inHead, f_inSize, f_outHead, f_outSize, f_lastCode, f_lastDetail, f_cacheLimit, f_lengthLimit, f_hand, f_running, f_linkFrom, f_exitKind, f_controlDone, f_trapCode, f_trapDetail, a_mem, a_marks, a_visitCount, a_inQueue, a_outQueue, a_blockStart, a_blockCount, a_blockRecent, a_links, a_entry, a_cover, a_opKind, a_opMode, a_opArg)) (vc := a_visitCount) (f_running := -1) (f_executedCount := f_executedCount + nI m) hm K m 0 (by omega) (m + 1) (by omega)
  rw [rn_vc0] at W
  exact W
theorem rx_156 {post : Int32 → SX → Prop} {s st ct m : Nat} (hs : s < 8) (hct : ct ≤ 16) (hm : st + m ≤ 256) (hrun : f_running = -1 ∨ f_running = nI s)
    (K : ∀ lf : Int32, (lf = f_linkFrom ∨ (lf = nI s ∧ f_running = nI s ∧ m = ct ∧ ¬ f_exitKind = 2)) → post (nI m) (f_size, f_executedCount + nI m, f_regA, f_regX, f_regS, f_pc, f_flagBits, f_znPending, f_znResult, f_cvKind, f_cvLeft, f_cvRight, f_cvWide, f_inHead, f_inSize, f_outHead, f_outSize, f_lastCode, f_lastDetail, f_cacheLimit, f_lengthLimit, f_hand, -1, lf, f_exitKind, f_controlDone, f_trapCode, f_trapDetail, a_mem, a_marks, rn_vc a_visitCount st m, a_inQueue, a_outQueue, a_blockStart, a_blockCount, a_blockRecent, a_links, a_entry, a_cover, a_opKind, a_opMode, a_opArg)) : wX_runBlock_156 post (nI s) (nI st) (nI ct) (nI m) f_size f_executedCount f_regA f_regX f_regS f_pc f_flagBits f_znPending f_znResult f_cvKind f_cvLeft f_cvRight f_cvWide f_inHead f_inSize f_outHead f_outSize f_lastCode f_lastDetail f_cacheLimit f_lengthLimit f_hand f_running f_linkFrom f_exitKind f_controlDone f_trapCode f_trapDetail a_mem a_marks a_visitCount a_inQueue a_outQueue a_blockStart a_blockCount a_blockRecent a_links a_entry a_cover a_opKind a_opMode a_opArg := by
  refine br_c (fun _ => ?_) (fun h => ?_)
  · exact rx_183 hm (K _ (Or.inl rfl))
  · refine pk_eq m ct (fun e => ?_) (fun e => ?_)
    · refine br_c (fun _ => ?_) (fun h2 => ?_)
      · exact rx_183 hm (K _ (Or.inl rfl))
      · refine rx_183 hm (K (nI s) (Or.inr ⟨rfl, ?_, e, h2⟩))
        refine hrun.resolve_left (fun q => h ?_)
        rw [q]; decide
    · exact rx_183 hm (K _ (Or.inl rfl))
end RX
end
section
/-! runBlock's loop against Y's loop (printed by gen18.py) -/
def rn_KE (post : Int32 → SX → Prop) (YS : (Int32 → SY → Prop) → Prop) (tb : Int32) (sz s st ct fuel k0 : Nat) (y_scr : Nat → Int32) (f_size f_executedCount f_regA f_regX f_regS f_pc f_flagBits f_znPending f_znResult f_cvKind f_cvLeft f_cvRight f_cvWide f_inHead f_inSize f_outHead f_outSize f_lastCode f_lastDetail f_cacheLimit f_lengthLimit f_hand f_running f_linkFrom f_exitKind f_controlDone f_trapCode f_trapDetail : Int32) (a_mem a_marks a_visitCount a_inQueue a_outQueue a_blockStart a_blockCount a_blockRecent a_links a_entry a_cover a_opKind a_opMode a_opArg : Nat → Int32) : Prop :=
  ∀ (i wn : Nat) (fl yp run ek cd : Int32) (inp outp : Nat → Int32) (g' : Nat → Option (Nat × Nat)) (A X S P fb zp zr ck cl cr cw ih is oh os : Int32) (mem iq oq bs bc br lk en cv : Nat → Int32),
    i < ct → k0 + i < fuel → wn < 65536 → sp_G A X S fl fb zp zr ck cl cr cw ih is oh os mem iq oq inp outp → ca_CI sz g' mem a_marks bs bc lk en cv a_opKind a_opMode a_opArg → (run = -1 ∨ (run = nI s ∧ g' s = some (st, ct))) → sp_C (st + i) (16 ≤ wn / 256 ∧ wn / 256 ≤ 29) (a_opArg (s * 16 + i)) P yp ek cd →
    (∀ pY : Int32 → SY → Prop, ry_M pY (nI fuel) tb (fuel - (k0 + i)) (nI (k0 + i)) (nI wn) is os (nI sz) A X S yp fl (f_executedCount + nI (i + 1)) f_lastCode f_lastDetail mem y_scr (rn_vc a_visitCount st (i + 1)) a_marks inp outp → YS pY) →
    wX_runBlock_141 post (nI s) (nI st) (nI ct) (nI (i + 1)) (nI sz) f_executedCount A X S P fb zp zr ck cl cr cw ih is oh os f_lastCode f_lastDetail f_cacheLimit f_lengthLimit f_hand run (-1) ek cd 0 0 mem a_marks a_visitCount iq oq bs bc br lk en cv a_opKind a_opMode a_opArg
def rn_KT (post : Int32 → SX → Prop) (YS : (Int32 → SY → Prop) → Prop) (sz s st ct fuel k0 : Nat) (y_scr : Nat → Int32) (f_size f_executedCount f_regA f_regX f_regS f_pc f_flagBits f_znPending f_znResult f_cvKind f_cvLeft f_cvRight f_cvWide f_inHead f_inSize f_outHead f_outSize f_lastCode f_lastDetail f_cacheLimit f_lengthLimit f_hand f_running f_linkFrom f_exitKind f_controlDone f_trapCode f_trapDetail : Int32) (a_mem a_marks a_visitCount a_inQueue a_outQueue a_blockStart a_blockCount a_blockRecent a_links a_entry a_cover a_opKind a_opMode a_opArg : Nat → Int32) : Prop :=
  ∀ (i : Nat) (code detail fl : Int32) (inp outp : Nat → Int32) (g' : Nat → Option (Nat × Nat)) (A X S P fb zp zr ck cl cr cw ih is oh os : Int32) (mem iq oq bs bc br lk en cv : Nat → Int32),
    i < ct → k0 + i < fuel → code ≠ 0 → sp_G A X S fl fb zp zr ck cl cr cw ih is oh os mem iq oq inp outp → ca_CI sz g' mem a_marks bs bc lk en cv a_opKind a_opMode a_opArg →
    (∀ pY : Int32 → SY → Prop, pY code (is, os, nI sz, A, X, S, nI (st + i), fl, f_executedCount + nI (i), f_lastCode, detail, mem, y_scr, rn_vc a_visitCount st (i), a_marks, inp, outp) → YS pY) →
    wX_runBlock_141 post (nI s) (nI st) (nI ct) (nI i) (nI sz) f_executedCount A X S P fb zp zr ck cl cr cw ih is oh os f_lastCode f_lastDetail f_cacheLimit f_lengthLimit f_hand (nI s) (-1) 0 0 code detail mem a_marks a_visitCount iq oq bs bc br lk en cv a_opKind a_opMode a_opArg
section RB
variable {f_size f_executedCount f_regA f_regX f_regS f_pc f_flagBits f_znPending f_znResult f_cvKind f_cvLeft f_cvRight f_cvWide f_inHead f_inSize f_outHead f_outSize f_lastCode f_lastDetail f_cacheLimit f_lengthLimit f_hand f_running f_linkFrom f_exitKind f_controlDone f_trapCode f_trapDetail : Int32} {a_mem a_marks a_visitCount a_inQueue a_outQueue a_blockStart a_blockCount a_blockRecent a_links a_entry a_cover a_opKind a_opMode a_opArg : Nat → Int32}
variable {y_fl : Int32} {y_scr y_inp y_outp : Nat → Int32}
variable {post : Int32 → SX → Prop} {YS : (Int32 → SY → Prop) → Prop} {tb : Int32} {sz s st ct fuel k0 lim : Nat}
theorem rb_closed {x1 x3 x4 x5 x6 x7 x9 : Int32} {n : Nat} (K : wX_runBlock_141 post x1 x3 x4 x7 f_size f_executedCount f_regA f_regX f_regS f_pc f_flagBits f_znPending f_znResult f_cvKind f_cvLeft f_cvRight f_cvWide f_inHead f_inSize f_outHead f_outSize f_lastCode f_lastDetail f_cacheLimit f_lengthLimit f_hand f_running f_linkFrom f_exitKind f_controlDone f_trapCode f_trapDetail a_mem a_marks a_visitCount a_inQueue a_outQueue a_blockStart a_blockCount a_blockRecent a_links a_entry a_cover a_opKind a_opMode a_opArg) : wX_runBlock_81 post x1 x3 x4 x5 x6 (n + 1) x7 0 x9 f_size f_executedCount f_regA f_regX f_regS f_pc f_flagBits f_znPending f_znResult f_cvKind f_cvLeft f_cvRight f_cvWide f_inHead f_inSize f_outHead f_outSize f_lastCode f_lastDetail f_cacheLimit f_lengthLimit f_hand f_running f_linkFrom f_exitKind f_controlDone f_trapCode f_trapDetail a_mem a_marks a_visitCount a_inQueue a_outQueue a_blockStart a_blockCount a_blockRecent a_links a_entry a_cover a_opKind a_opMode a_opArg :=
  br_c (fun _ => K) (fun _ => br_t rfl K)
theorem dc_ctl {w : Nat} (h : 16 ≤ w / 256 ∧ w / 256 ≤ 29) : (dc_D sz w).1 = w / 256 := by
  unfold dc_D
  rw [if_neg (by omega), if_neg (by omega), if_pos h]
theorem rb_81 (hz32 : 32 ≤ sz) (hz : sz ≤ 256) (hs : s < 8) (hlim : lim ≤ ct) (hfu : k0 + lim ≤ fuel) (hf4 : fuel ≤ 400)
    (KE : rn_KE post YS tb sz s st ct fuel k0 y_scr f_size f_executedCount f_regA f_regX f_regS f_pc f_flagBits f_znPending f_znResult f_cvKind f_cvLeft f_cvRight f_cvWide f_inHead f_inSize f_outHead f_outSize f_lastCode f_lastDetail f_cacheLimit f_lengthLimit f_hand f_running f_linkFrom f_exitKind f_controlDone f_trapCode f_trapDetail a_mem a_marks a_visitCount a_inQueue a_outQueue a_blockStart a_blockCount a_blockRecent a_links a_entry a_cover a_opKind a_opMode a_opArg) (KT : rn_KT post YS sz s st ct fuel k0 y_scr f_size f_executedCount f_regA f_regX f_regS f_pc f_flagBits f_znPending f_znResult f_cvKind f_cvLeft f_cvRight f_cvWide f_inHead f_inSize f_outHead f_outSize f_lastCode f_lastDetail f_cacheLimit f_lengthLimit f_hand f_running f_linkFrom f_exitKind f_controlDone f_trapCode f_trapDetail a_mem a_marks a_visitCount a_inQueue a_outQueue a_blockStart a_blockCount a_blockRecent a_links a_entry a_cover a_opKind a_opMode a_opArg) :
    ∀ d i, i + d + 1 = lim → ∀ n, d + 2 < n → ∀ (fl : Int32) (inp outp : Nat → Int32) (g : Nat → Option (Nat × Nat)) (A X S P fb zp zr ck cl cr cw ih is oh os : Int32) (mem iq oq bs bc br lk en cv : Nat → Int32),
    sp_G A X S fl fb zp zr ck cl cr cw ih is oh os mem iq oq inp outp → ca_CI sz g mem a_marks bs bc lk en cv a_opKind a_opMode a_opArg → g s = some (st, ct) →
    (∀ pY : Int32 → SY → Prop, wY_runUntilStop_2 pY (nI fuel) tb (fuel - (k0 + i) + 1) (nI (k0 + i)) is os (nI sz) A X S (nI (st + i)) fl (f_executedCount + nI (i)) f_lastCode f_lastDetail mem y_scr (rn_vc a_visitCount st (i)) a_marks inp outp → YS pY) →
    wX_runBlock_81 post (nI s) (nI st) (nI ct) (nI lim) (nI (s * 16)) n (nI i) 1 (nI i) (nI sz) f_executedCount A X S P fb zp zr ck cl cr cw ih is oh os f_lastCode f_lastDetail f_cacheLimit f_lengthLimit f_hand (nI s) (-1) 0 0 0 0 mem a_marks a_visitCount iq oq bs bc br lk en cv a_opKind a_opMode a_opArg := by
  intro d
  induction d with
  | zero =>
    intro i hi n hn fl inp outp g A X S P fb zp zr ck cl cr cw ih is oh os mem iq oq bs bc br lk en cv G C hg hY
    obtain ⟨n, rfl⟩ : ∃ m, n = m + 1 + 1 := ⟨n - 2, by omega⟩
    obtain ⟨b1, b2, b3, b4, b5, b6, b7, b8, b9⟩ := ca_some C hs hg
    obtain ⟨wn, hw, ew, eK, eM, eA⟩ := b7 i (by omega)
    have e1 : f_executedCount + nI i + 1 = f_executedCount + nI (i + 1) := by rw [Int32.add_assoc, nI_1]
    refine br_f (nI_ge (by omega) (by omega)) ?_
    refine br_f (by decide) ?_
    rw [nI_add (s * 16) i, nI_add st i]
    refine sp_step (f_size := 0) (f_running := 0) (f_linkFrom := 0) (f_exitKind := 0) (f_controlDone := 0) (f_trapCode := 0) (f_trapDetail := 0) (g := g) (y_fl := fl) (y_scr := y_scr) (y_inp := inp) (y_outp := outp) (y_ex := f_executedCount + nI i) (y_vc := rn_vc a_visitCount st i) hz32 hz hs (by omega) (by omega) hw G C eK eM eA ?_ ?_
    · intro fl' yp' inp' outp' g' A' X' S' P' fb' zp' zr' ck' cl' cr' cw' ih' is' oh' os' run' ek' cd' mem' iq' oq' bs' bc' br' lk' en' cv' G' C' D' ctl hS
      have hY' : ∀ pY : Int32 → SY → Prop, ry_M pY (nI fuel) tb (fuel - (k0 + i)) (nI (k0 + i)) (nI wn) is' os' (nI sz) A' X' S' yp' fl' (f_executedCount + nI (i + 1)) f_lastCode f_lastDetail mem' y_scr (rn_vc a_visitCount st (i + 1)) a_marks inp' outp' → YS pY := by
        intro pY h
        refine hY pY ?_
        refine ry_step (by omega) (by omega) (by omega) hz ew hS ?_
        rw [e1, rn_vcs]
        exact h
      refine br_f (by decide) ?_
      refine nm_r (e' := nI (i + 1)) (nI_1 i) ?_
      refine br_f (by decide) ?_
      refine br_c (fun hr => ?_) (fun hr => ?_)
      · refine nm_r (e' := nI (i + 1)) (nI_1 i) ?_
        refine rb_closed ?_
        refine KE i wn fl' yp' run' ek' cd' inp' outp' g' A' X' S' P' fb' zp' zr' ck' cl' cr' cw' ih' is' oh' os' mem' iq' oq' bs' bc' br' lk' en' cv' (by omega) (by omega) hw G' C' ?_ ctl hY'
        rcases D'.2.1 with q | q
        · exact absurd hr (by rw [q]; exact nI_pos (by omega))
        · exact Or.inl q
      · have hrun : run' = nI s := D'.2.1.resolve_right (fun q => hr (by rw [q]; decide))
        have hg' : g' s = some (st, ct) := (D'.2.2.2.1 s hs hrun).trans hg
        refine nm_r (e' := nI (i + 1)) (nI_1 i) ?_
        refine br_t (nI_le (by omega) (by omega)) ?_
        exact KE i wn fl' yp' run' ek' cd' inp' outp' g' A' X' S' P' fb' zp' zr' ck' cl' cr' cw' ih' is' oh' os' mem' iq' oq' bs' bc' br' lk' en' cv' (by omega) (by omega) hw G' C' (Or.inr ⟨hrun, hg'⟩) ctl hY'
    · intro code detail hc hS
      refine br_t rfl ?_
      refine br_t rfl ?_
      refine nm_r (e' := nI (i + 1)) (nI_1 i) ?_
      refine rb_closed ?_
      refine KT i code detail fl inp outp g A X S P fb zp zr ck cl cr cw ih is oh os mem iq oq bs bc br lk en cv (by omega) (by omega) hc G C ?_
      intro pY h
      refine hY pY ?_
      exact ry_trap (by omega) (by omega) (by omega) hz ew hc hS h
  | succ d IH =>
    intro i hi n hn fl inp outp g A X S P fb zp zr ck cl cr cw ih is oh os mem iq oq bs bc br lk en cv G C hg hY
    obtain ⟨n, rfl⟩ : ∃ m, n = m + 1 + 1 := ⟨n - 2, by omega⟩
    obtain ⟨b1, b2, b3, b4, b5, b6, b7, b8, b9⟩ := ca_some C hs hg
    obtain ⟨wn, hw, ew, eK, eM, eA⟩ := b7 i (by omega)
    have e1 : f_executedCount + nI i + 1 = f_executedCount + nI (i + 1) := by rw [Int32.add_assoc, nI_1]
    refine br_f (nI_ge (by omega) (by omega)) ?_
    refine br_f (by decide) ?_
    rw [nI_add (s * 16) i, nI_add st i]
    refine sp_step (f_size := 0) (f_running := 0) (f_linkFrom := 0) (f_exitKind := 0) (f_controlDone := 0) (f_trapCode := 0) (f_trapDetail := 0) (g := g) (y_fl := fl) (y_scr := y_scr) (y_inp := inp) (y_outp := outp) (y_ex := f_executedCount + nI i) (y_vc := rn_vc a_visitCount st i) hz32 hz hs (by omega) (by omega) hw G C eK eM eA ?_ ?_
    · intro fl' yp' inp' outp' g' A' X' S' P' fb' zp' zr' ck' cl' cr' cw' ih' is' oh' os' run' ek' cd' mem' iq' oq' bs' bc' br' lk' en' cv' G' C' D' ctl hS
      have hY' : ∀ pY : Int32 → SY → Prop, ry_M pY (nI fuel) tb (fuel - (k0 + i)) (nI (k0 + i)) (nI wn) is' os' (nI sz) A' X' S' yp' fl' (f_executedCount + nI (i + 1)) f_lastCode f_lastDetail mem' y_scr (rn_vc a_visitCount st (i + 1)) a_marks inp' outp' → YS pY := by
        intro pY h
        refine hY pY ?_
        refine ry_step (by omega) (by omega) (by omega) hz ew hS ?_
        rw [e1, rn_vcs]
        exact h
      refine br_f (by decide) ?_
      refine nm_r (e' := nI (i + 1)) (nI_1 i) ?_
      refine br_f (by decide) ?_
      refine br_c (fun hr => ?_) (fun hr => ?_)
      · refine nm_r (e' := nI (i + 1)) (nI_1 i) ?_
        refine rb_closed ?_
        refine KE i wn fl' yp' run' ek' cd' inp' outp' g' A' X' S' P' fb' zp' zr' ck' cl' cr' cw' ih' is' oh' os' mem' iq' oq' bs' bc' br' lk' en' cv' (by omega) (by omega) hw G' C' ?_ ctl hY'
        rcases D'.2.1 with q | q
        · exact absurd hr (by rw [q]; exact nI_pos (by omega))
        · exact Or.inl q
      · have hrun : run' = nI s := D'.2.1.resolve_right (fun q => hr (by rw [q]; decide))
        have hg' : g' s = some (st, ct) := (D'.2.2.2.1 s hs hrun).trans hg
        refine nm_r (e' := nI (i + 1)) (nI_1 i) ?_
        rcases ctl with ⟨c1, c2, c3, c4⟩ | ⟨c1, c2, c3, c4, c5⟩
        · subst c1 c2 c3 hrun
          refine IH (i + 1) (by omega) (n + 1) (by omega) fl' inp' outp' g' A' X' S' P' fb' zp' zr' ck' cl' cr' cw' ih' is' oh' os' mem' iq' oq' bs' bc' br' lk' en' cv' G' C' hg' ?_
          intro pY h
          refine hY' pY ?_
          have e2 : fuel - (k0 + (i + 1)) + 1 = fuel - (k0 + i) := by omega
          rw [e2] at h
          refine ry_next hw hz (by omega) (Or.inr c4) ?_ h
          intro _
          exact (ca_some C' hs hg').2.2.2.2.2.2.2.1 (i + 1) (by omega) (by omega)
        · exfalso
          have q := b9 i (by omega)
          rw [eK, dc_ctl c4] at q
          have q1 : ¬ nI (wn / 256) < 16 := nI_nlt (b := 16) c4.1 (by omega)
          have q2 : ¬ 29 < nI (wn / 256) := nI_nlt (a := 29) c4.2 (by decide)
          exact q.2.elim q1 q2
    · intro code detail hc hS
      refine br_t rfl ?_
      refine br_t rfl ?_
      refine nm_r (e' := nI (i + 1)) (nI_1 i) ?_
      refine rb_closed ?_
      refine KT i code detail fl inp outp g A X S P fb zp zr ck cl cr cw ih is oh os mem iq oq bs bc br lk en cv (by omega) (by omega) hc G C ?_
      intro pY h
      refine hY pY ?_
      exact ry_trap (by omega) (by omega) (by omega) hz ew hc hS h
end RB
end
section
/-! runBlock (printed by gen19.py) -/
def rb_KD (post : Int32 → SX → Prop) (YS : (Int32 → SY → Prop) → Prop) (tb : Int32) (sz fuel k0 left : Nat) (y_scr : Nat → Int32) (f_size f_executedCount f_regA f_regX f_regS f_pc f_flagBits f_znPending f_znResult f_cvKind f_cvLeft f_cvRight f_cvWide f_inHead f_inSize f_outHead f_outSize f_lastCode f_lastDetail f_cacheLimit f_lengthLimit f_hand f_running f_linkFrom f_exitKind f_controlDone f_trapCode f_trapDetail : Int32) (a_mem a_marks a_visitCount a_inQueue a_outQueue a_blockStart a_blockCount a_blockRecent a_links a_entry a_cover a_opKind a_opMode a_opArg : Nat → Int32) : Prop :=
  ∀ (i wn q : Nat) (fl lf ek cd ex : Int32) (inp outp vc : Nat → Int32) (g' : Nat → Option (Nat × Nat)) (A X S fb zp zr ck cl cr cw ih is oh os : Int32) (mem iq oq bs bc br lk en cv : Nat → Int32),
    i < left → wn < 65536 → q < 65536 → sp_G A X S fl fb zp zr ck cl cr cw ih is oh os mem iq oq inp outp → ca_CI sz g' mem a_marks bs bc lk en cv a_opKind a_opMode a_opArg → fi_L g' a_opArg lf ek q → ((cd = 0 ∧ ¬ (16 ≤ wn / 256 ∧ wn / 256 ≤ 29)) ∨ (cd = 1 ∧ 16 ≤ wn / 256 ∧ wn / 256 ≤ 29)) →
    (∀ pY : Int32 → SY → Prop, ry_M pY (nI fuel) tb (fuel - (k0 + i)) (nI (k0 + i)) (nI wn) is os (nI sz) A X S (nI q) fl ex f_lastCode f_lastDetail mem y_scr vc a_marks inp outp → YS pY) →
    post (nI (i + 1)) (nI sz, ex, A, X, S, nI q, fb, zp, zr, ck, cl, cr, cw, ih, is, oh, os, f_lastCode, f_lastDetail, f_cacheLimit, f_lengthLimit, f_hand, -1, lf, ek, cd, 0, 0, mem, a_marks, vc, iq, oq, bs, bc, br, lk, en, cv, a_opKind, a_opMode, a_opArg)
def rb_KT (post : Int32 → SX → Prop) (YS : (Int32 → SY → Prop) → Prop) (sz left : Nat) (y_scr : Nat → Int32) (f_size f_executedCount f_regA f_regX f_regS f_pc f_flagBits f_znPending f_znResult f_cvKind f_cvLeft f_cvRight f_cvWide f_inHead f_inSize f_outHead f_outSize f_lastCode f_lastDetail f_cacheLimit f_lengthLimit f_hand f_running f_linkFrom f_exitKind f_controlDone f_trapCode f_trapDetail : Int32) (a_mem a_marks a_visitCount a_inQueue a_outQueue a_blockStart a_blockCount a_blockRecent a_links a_entry a_cover a_opKind a_opMode a_opArg : Nat → Int32) : Prop :=
  ∀ (i q : Nat) (fl code detail ex : Int32) (inp outp vc : Nat → Int32) (g' : Nat → Option (Nat × Nat)) (A X S fb zp zr ck cl cr cw ih is oh os : Int32) (mem iq oq bs bc br lk en cv : Nat → Int32),
    i < left → q < 65536 → code ≠ 0 → sp_G A X S fl fb zp zr ck cl cr cw ih is oh os mem iq oq inp outp → ca_CI sz g' mem a_marks bs bc lk en cv a_opKind a_opMode a_opArg →
    (∀ pY : Int32 → SY → Prop, pY code (is, os, nI sz, A, X, S, nI q, fl, ex, f_lastCode, detail, mem, y_scr, vc, a_marks, inp, outp) → YS pY) →
    post (nI i) (nI sz, ex, A, X, S, nI q, fb, zp, zr, ck, cl, cr, cw, ih, is, oh, os, f_lastCode, f_lastDetail, f_cacheLimit, f_lengthLimit, f_hand, -1, -1, 0, 0, code, detail, mem, a_marks, vc, iq, oq, bs, bc, br, lk, en, cv, a_opKind, a_opMode, a_opArg)
section RC
variable {f_size f_executedCount f_regA f_regX f_regS f_pc f_flagBits f_znPending f_znResult f_cvKind f_cvLeft f_cvRight f_cvWide f_inHead f_inSize f_outHead f_outSize f_lastCode f_lastDetail f_cacheLimit f_lengthLimit f_hand f_running f_linkFrom f_exitKind f_controlDone f_trapCode f_trapDetail : Int32} {a_mem a_marks a_visitCount a_inQueue a_outQueue a_blockStart a_blockCount a_blockRecent a_links a_entry a_cover a_opKind a_opMode a_opArg : Nat → Int32}
variable {y_fl : Int32} {y_scr y_inp y_outp : Nat → Int32}
variable {post : Int32 → SX → Prop} {YS : (Int32 → SY → Prop) → Prop} {tb : Int32} {sz s st ct fuel k0 left : Nat}
theorem rb_E (hz : sz ≤ 256) (hs : s < 8) (hct : ct ≤ 16) (hst : st + ct ≤ sz) (hfu : k0 + left = fuel) (KD : rb_KD post YS tb sz fuel k0 left y_scr f_size f_executedCount f_regA f_regX f_regS f_pc f_flagBits f_znPending f_znResult f_cvKind f_cvLeft f_cvRight f_cvWide f_inHead f_inSize f_outHead f_outSize f_lastCode f_lastDetail f_cacheLimit f_lengthLimit f_hand f_running f_linkFrom f_exitKind f_controlDone f_trapCode f_trapDetail a_mem a_marks a_visitCount a_inQueue a_outQueue a_blockStart a_blockCount a_blockRecent a_links a_entry a_cover a_opKind a_opMode a_opArg) : rn_KE post YS tb sz s st ct fuel k0 y_scr f_size f_executedCount f_regA f_regX f_regS f_pc f_flagBits f_znPending f_znResult f_cvKind f_cvLeft f_cvRight f_cvWide f_inHead f_inSize f_outHead f_outSize f_lastCode f_lastDetail f_cacheLimit f_lengthLimit f_hand f_running f_linkFrom f_exitKind f_controlDone f_trapCode f_trapDetail a_mem a_marks a_visitCount a_inQueue a_outQueue a_blockStart a_blockCount a_blockRecent a_links a_entry a_cover a_opKind a_opMode a_opArg := by
  intro i wn fl yp run ek cd inp outp g' A X S P fb zp zr ck cl cr cw ih is oh os mem iq oq bs bc br lk en cv hi hk hw G C hrun ctl hY
  have hrun' : run = -1 ∨ run = nI s := hrun.elim Or.inl (fun h => Or.inr h.1)
  have hm : st + (i + 1) ≤ 256 := by omega
  have key : ∀ (q : Nat), nI q = yp → q < 65536 → ((cd = 0 ∧ ¬ (16 ≤ wn / 256 ∧ wn / 256 ≤ 29)) ∨ (cd = 1 ∧ 16 ≤ wn / 256 ∧ wn / 256 ≤ 29)) → (¬ ek = 2 → i + 1 = ct → ∃ e, e < 2 ∧ ek = nI e ∧ nI q = ca_tg a_opArg s st ct e) →
      wX_runBlock_156 post (nI s) (nI st) (nI ct) (nI (i + 1)) (nI sz) f_executedCount A X S (nI q) fb zp zr ck cl cr cw ih is oh os f_lastCode f_lastDetail f_cacheLimit f_lengthLimit f_hand run (-1) ek cd 0 0 mem a_marks a_visitCount iq oq bs bc br lk en cv a_opKind a_opMode a_opArg := by
    intro q hq hq2 hcd hek
    refine rx_156 hs hct hm hrun' ?_
    intro lf hlf
    refine KD i wn q fl lf ek cd _ inp outp _ g' A X S fb zp zr ck cl cr cw ih is oh os mem iq oq bs bc br lk en cv (by omega) hw hq2 G C ?_ hcd ?_
    · rcases hlf with h | ⟨h1, h2, h3, h4⟩
      · exact Or.inl h
      · obtain ⟨e, he, h5, h6⟩ := hek h4 h3
        refine Or.inr ⟨s, e, st, ct, hs, he, h1, h5, ?_, h6⟩
        rcases hrun with q1 | q1
        · exact absurd (q1.symm.trans h2) (ab_ne1' (by omega))
        · exact q1.2
    · intro pY h
      refine hY pY ?_
      rw [← hq]
      exact h
  rcases ctl with ⟨c1, c2, c3, c4⟩ | ⟨c1, c2, c3, c4, c5⟩
  · subst c1
    refine br_t rfl ?_
    refine nm_r (e' := nI (st + (i + 1))) (nI_add st (i + 1)) ?_
    refine key (st + (i + 1)) c3.symm (by omega) (Or.inl ⟨rfl, c4⟩) ?_
    intro _ h
    refine ⟨0, by omega, c2, ?_⟩
    unfold ca_tg
    rw [if_pos rfl, h]
  · subst c1
    obtain ⟨q, hq, eq⟩ := c3
    subst eq
    refine br_f (by decide) ?_
    refine key q c2.symm hq (Or.inr ⟨rfl, c4⟩) ?_
    intro h2 h
    rcases c5 with c5 | ⟨c5, c6⟩ | ⟨c5, c6⟩
    · exact absurd c5 h2
    · refine ⟨0, by omega, c5, ?_⟩
      unfold ca_tg
      rw [if_pos rfl, c6, ← h]
      rfl
    · refine ⟨1, by omega, c5, ?_⟩
      unfold ca_tg
      rw [if_neg (by omega), c6]
      exact congrArg a_opArg (by omega)
theorem rb_T (hz : sz ≤ 256) (hs : s < 8) (hct : ct ≤ 16) (hst : st + ct ≤ sz) (hfu : k0 + left = fuel) (KT : rb_KT post YS sz left y_scr f_size f_executedCount f_regA f_regX f_regS f_pc f_flagBits f_znPending f_znResult f_cvKind f_cvLeft f_cvRight f_cvWide f_inHead f_inSize f_outHead f_outSize f_lastCode f_lastDetail f_cacheLimit f_lengthLimit f_hand f_running f_linkFrom f_exitKind f_controlDone f_trapCode f_trapDetail a_mem a_marks a_visitCount a_inQueue a_outQueue a_blockStart a_blockCount a_blockRecent a_links a_entry a_cover a_opKind a_opMode a_opArg) : rn_KT post YS sz s st ct fuel k0 y_scr f_size f_executedCount f_regA f_regX f_regS f_pc f_flagBits f_znPending f_znResult f_cvKind f_cvLeft f_cvRight f_cvWide f_inHead f_inSize f_outHead f_outSize f_lastCode f_lastDetail f_cacheLimit f_lengthLimit f_hand f_running f_linkFrom f_exitKind f_controlDone f_trapCode f_trapDetail a_mem a_marks a_visitCount a_inQueue a_outQueue a_blockStart a_blockCount a_blockRecent a_links a_entry a_cover a_opKind a_opMode a_opArg := by
  intro i code detail fl inp outp g' A X S P fb zp zr ck cl cr cw ih is oh os mem iq oq bs bc br lk en cv hi hk hc G C hY
  refine br_t rfl ?_
  refine nm_r (e' := nI (st + i)) (nI_add st i) ?_
  refine rx_156 hs hct (by omega) (Or.inr rfl) ?_
  intro lf hlf
  rcases hlf with h | ⟨h1, h2, h3, h4⟩
  · subst h
    exact KT i (st + i) fl code detail _ inp outp _ g' A X S fb zp zr ck cl cr cw ih is oh os mem iq oq bs bc br lk en cv (by omega) (by omega) hc G C hY
  · omega
theorem rb_run {g : Nat → Option (Nat × Nat)} (hz32 : 32 ≤ sz) (hz : sz ≤ 256) (hs : s < 8) (h1 : 1 ≤ left) (hfu : k0 + left = fuel) (hf4 : fuel ≤ 400) (G : sp_G f_regA f_regX f_regS y_fl f_flagBits f_znPending f_znResult f_cvKind f_cvLeft f_cvRight f_cvWide f_inHead f_inSize f_outHead f_outSize a_mem a_inQueue a_outQueue y_inp y_outp) (C : ca_CI sz g a_mem a_marks a_blockStart a_blockCount a_links a_entry a_cover a_opKind a_opMode a_opArg) (hg : g s = some (st, ct))
    (hY : ∀ pY : Int32 → SY → Prop, wY_runUntilStop_2 pY (nI fuel) tb (fuel - k0 + 1) (nI k0) f_inSize f_outSize (nI sz) f_regA f_regX f_regS (nI st) y_fl f_executedCount f_lastCode f_lastDetail a_mem y_scr a_visitCount a_marks y_inp y_outp → YS pY)
    (KD : rb_KD post YS tb sz fuel k0 left y_scr f_size f_executedCount f_regA f_regX f_regS f_pc f_flagBits f_znPending f_znResult f_cvKind f_cvLeft f_cvRight f_cvWide f_inHead f_inSize f_outHead f_outSize f_lastCode f_lastDetail f_cacheLimit f_lengthLimit f_hand f_running f_linkFrom f_exitKind f_controlDone f_trapCode f_trapDetail a_mem a_marks a_visitCount a_inQueue a_outQueue a_blockStart a_blockCount a_blockRecent a_links a_entry a_cover a_opKind a_opMode a_opArg) (KT : rb_KT post YS sz left y_scr f_size f_executedCount f_regA f_regX f_regS f_pc f_flagBits f_znPending f_znResult f_cvKind f_cvLeft f_cvRight f_cvWide f_inHead f_inSize f_outHead f_outSize f_lastCode f_lastDetail f_cacheLimit f_lengthLimit f_hand f_running f_linkFrom f_exitKind f_controlDone f_trapCode f_trapDetail a_mem a_marks a_visitCount a_inQueue a_outQueue a_blockStart a_blockCount a_blockRecent a_links a_entry a_cover a_opKind a_opMode a_opArg) : wpX_runBlock post (nI sz, f_executedCount, f_regA, f_regX, f_regS, nI st, f_flagBits, f_znPending, f_znResult, f_cvKind, f_cvLeft, f_cvRight, f_cvWide, f_inHead, f_inSize, f_outHead, f_outSize, f_lastCode, f_lastDetail, f_cacheLimit, f_lengthLimit, f_hand, f_running, f_linkFrom, f_exitKind, f_controlDone, f_trapCode, f_trapDetail, a_mem, a_marks, a_visitCount, a_inQueue, a_outQueue, a_blockStart, a_blockCount, a_blockRecent, a_links, a_entry, a_cover, a_opKind, a_opMode, a_opArg) (nI s) (nI left) := by
  obtain ⟨b1, b2, b3, b4, b5, b6, b7, b8, b9⟩ := ca_some C hs hg
  have hin : vp_in (nI s) 8 := vp_in_nI hs (by decide)
  have ec : (nI s).toNatClampNeg = s := nI_clamp (by omega)
  have e0 : f_executedCount + nI 0 = f_executedCount := by rw [nI_0, Int32.add_zero]
  refine And.intro hin (nm_r (e' := nI st) (by rw [ec]; exact b1) ?_)
  refine And.intro hin (nm_r (e' := nI ct) (by rw [ec]; exact b2) ?_)
  have W : ∀ lim, 1 ≤ lim → lim ≤ ct → lim ≤ left → wX_runBlock_27 post (nI s) (nI st) (nI ct) (nI lim) (nI sz) f_executedCount f_regA f_regX f_regS (nI st) f_flagBits f_znPending f_znResult f_cvKind f_cvLeft f_cvRight f_cvWide f_inHead f_inSize f_outHead f_outSize f_lastCode f_lastDetail f_cacheLimit f_lengthLimit f_hand f_running f_linkFrom f_exitKind f_controlDone f_trapCode f_trapDetail a_mem a_marks a_visitCount a_inQueue a_outQueue a_blockStart a_blockCount a_blockRecent a_links a_entry a_cover a_opKind a_opMode a_opArg := by
    intro lim hl1 hl2 hl3
    refine nm_r (e' := nI (s * 16)) (ab_x16 s) ?_
    refine And.intro hin ?_
    refine nm_e ?_
    refine ⟨lim + 2, ?_⟩
    refine rb_81 (lim := lim) (f_size := 0) (f_running := 0) (f_linkFrom := 0) (f_exitKind := 0) (f_controlDone := 0) (f_trapCode := 0) (f_trapDetail := 0) (f_regA := f_regA) (f_regX := f_regX) (f_regS := f_regS) (f_pc := f_pc) (f_flagBits := f_flagBits) (f_znPending := f_znPending) (f_znResult := f_znResult) (f_cvKind := f_cvKind) (f_cvLeft := f_cvLeft) (f_cvRight := f_cvRight) (f_cvWide := f_cvWide) (f_inHead := f_inHead) (f_inSize := f_inSize) (f_outHead := f_outHead) (f_outSize := f_outSize) (a_mem := a_mem) (a_inQueue := a_inQueue) (a_outQueue := a_outQueue) (a_blockStart := a_blockStart) (a_blockCount := a_blockCount) (a_blockRecent := a_blockRecent) (a_links := a_links) (a_entry := a_entry) (a_cover := a_cover) (y_scr := y_scr) hz32 hz hs hl2 (by omega) hf4 (rb_E hz hs b4 b5 hfu KD) (rb_T hz hs b4 b5 hfu KT) (lim - 1) 0 (by omega) (lim + 2) (by omega) y_fl y_inp y_outp g _ _ _ _ _ _ _ _ _ _ _ _ _ _ _ _ _ _ _ _ _ _ _ _ G C hg ?_
    intro pY h
    rw [e0, rn_vc0] at h
    exact hY pY h
  refine pk_le ct left (fun l => ?_) (fun l => ?_)
  · exact W ct b3 (by omega) l
  · exact W left h1 (by omega) (by omega)
end RC
end
section
/-! dispatch (printed by gen20.py) -/
def rd_KF (post : Int32 → SX → Prop) (YS : (Int32 → SY → Prop) → Prop) (sz cl ll : Nat) (f_lastCode : Int32) (y_scr a_marks : Nat → Int32) : Prop :=
  ∀ (hd p : Nat) (code detail : Int32) (y_fl f_executedCount f_regA f_regX f_regS f_flagBits f_znPending f_znResult f_cvKind f_cvLeft f_cvRight f_cvWide f_inHead f_inSize f_outHead f_outSize f_lastDetail f_running f_linkFrom f_exitKind f_controlDone f_trapCode f_trapDetail : Int32) (y_inp y_outp a_mem a_visitCount a_inQueue a_outQueue a_blockStart a_blockCount a_blockRecent a_links a_entry a_cover a_opKind a_opMode a_opArg : Nat → Int32) (g : Nat → Option (Nat × Nat)), hd < cl → p < 65536 → sp_G f_regA f_regX f_regS y_fl f_flagBits f_znPending f_znResult f_cvKind f_cvLeft f_cvRight f_cvWide f_inHead f_inSize f_outHead f_outSize a_mem a_inQueue a_outQueue y_inp y_outp → ca_CI sz g a_mem a_marks a_blockStart a_blockCount a_links a_entry a_cover a_opKind a_opMode a_opArg → (∀ pY : Int32 → SY → Prop, pY code (f_inSize, f_outSize, nI sz, f_regA, f_regX, f_regS, nI p, y_fl, f_executedCount, f_lastCode, detail, a_mem, y_scr, a_visitCount, a_marks, y_inp, y_outp) → YS pY) →
    post code (nI sz, f_executedCount, f_regA, f_regX, f_regS, nI p, f_flagBits, f_znPending, f_znResult, f_cvKind, f_cvLeft, f_cvRight, f_cvWide, f_inHead, f_inSize, f_outHead, f_outSize, code, detail, nI cl, nI ll, nI hd, f_running, -1, f_exitKind, f_controlDone, f_trapCode, f_trapDetail, a_mem, a_marks, a_visitCount, a_inQueue, a_outQueue, a_blockStart, a_blockCount, a_blockRecent, a_links, a_entry, a_cover, a_opKind, a_opMode, a_opArg)
section RD
variable {post : Int32 → SX → Prop} {YS : (Int32 → SY → Prop) → Prop} {tb f_lastCode : Int32} {y_scr a_marks : Nat → Int32} {sz cl ll fuel : Nat}
theorem rd_end {x3 x4 x5 : Int32} {n : Nat} {f_size f_executedCount f_regA f_regX f_regS f_pc f_flagBits f_znPending f_znResult f_cvKind f_cvLeft f_cvRight f_cvWide f_inHead f_inSize f_outHead f_outSize f_lastDetail f_cacheLimit f_lengthLimit f_hand f_running f_linkFrom f_exitKind f_controlDone f_trapCode f_trapDetail : Int32} {a_mem a_visitCount a_inQueue a_outQueue a_blockStart a_blockCount a_blockRecent a_links a_entry a_cover a_opKind a_opMode a_opArg : Nat → Int32} (h : ¬ x4 = 0) (K : post x4 (f_size, f_executedCount, f_regA, f_regX, f_regS, f_pc, f_flagBits, f_znPending, f_znResult, f_cvKind, f_cvLeft, f_cvRight, f_cvWide, f_inHead, f_inSize, f_outHead, f_outSize, x4, f_lastDetail, f_cacheLimit, f_lengthLimit, f_hand, f_running, -1, f_exitKind, f_controlDone, f_trapCode, f_trapDetail, a_mem, a_marks, a_visitCount, a_inQueue, a_outQueue, a_blockStart, a_blockCount, a_blockRecent, a_links, a_entry, a_cover, a_opKind, a_opMode, a_opArg)) : wX_dispatch_13 post tb (n + 1) x3 x4 x5 f_size f_executedCount f_regA f_regX f_regS f_pc f_flagBits f_znPending f_znResult f_cvKind f_cvLeft f_cvRight f_cvWide f_inHead f_inSize f_outHead f_outSize f_lastCode f_lastDetail f_cacheLimit f_lengthLimit f_hand f_running f_linkFrom f_exitKind f_controlDone f_trapCode f_trapDetail a_mem a_marks a_visitCount a_inQueue a_outQueue a_blockStart a_blockCount a_blockRecent a_links a_entry a_cover a_opKind a_opMode a_opArg :=
  br_c (fun _ => K) (fun _ => br_f h K)
theorem rd_13 (hz32 : 32 ≤ sz) (hz : sz ≤ 256) (hl1 : 1 ≤ ll) (hl : ll ≤ 16) (hc1 : 1 ≤ cl) (hc8 : cl ≤ 8) (hf4 : fuel ≤ 400) (KF : rd_KF post YS sz cl ll f_lastCode y_scr a_marks) :
    ∀ d left, left ≤ d → ∀ (j n k0 hd p : Nat) (y_fl f_executedCount f_regA f_regX f_regS f_flagBits f_znPending f_znResult f_cvKind f_cvLeft f_cvRight f_cvWide f_inHead f_inSize f_outHead f_outSize f_lastDetail f_running f_linkFrom f_exitKind f_controlDone f_trapCode f_trapDetail : Int32) (y_inp y_outp a_mem a_visitCount a_inQueue a_outQueue a_blockStart a_blockCount a_blockRecent a_links a_entry a_cover a_opKind a_opMode a_opArg : Nat → Int32) (g : Nat → Option (Nat × Nat)), 1 ≤ left → k0 + left = fuel → j ≤ k0 → left + 1 < n → hd < cl → p < 65536 → sp_G f_regA f_regX f_regS y_fl f_flagBits f_znPending f_znResult f_cvKind f_cvLeft f_cvRight f_cvWide f_inHead f_inSize f_outHead f_outSize a_mem a_inQueue a_outQueue y_inp y_outp → ca_CI sz g a_mem a_marks a_blockStart a_blockCount a_links a_entry a_cover a_opKind a_opMode a_opArg → fi_L g a_opArg f_linkFrom f_exitKind p →
    (∀ pY : Int32 → SY → Prop, wY_runUntilStop_2 pY (nI fuel) tb (fuel - k0 + 1) (nI k0) f_inSize f_outSize (nI sz) f_regA f_regX f_regS (nI p) y_fl f_executedCount f_lastCode f_lastDetail a_mem y_scr a_visitCount a_marks y_inp y_outp → YS pY) →
    wX_dispatch_13 post tb n (nI left) 0 (nI j) (nI sz) f_executedCount f_regA f_regX f_regS (nI p) f_flagBits f_znPending f_znResult f_cvKind f_cvLeft f_cvRight f_cvWide f_inHead f_inSize f_outHead f_outSize f_lastCode f_lastDetail (nI cl) (nI ll) (nI hd) f_running f_linkFrom f_exitKind f_controlDone f_trapCode f_trapDetail a_mem a_marks a_visitCount a_inQueue a_outQueue a_blockStart a_blockCount a_blockRecent a_links a_entry a_cover a_opKind a_opMode a_opArg := by
  intro d
  induction d with
  | zero =>
    intro left h0
    intro j n k0 hd p y_fl f_executedCount f_regA f_regX f_regS f_flagBits f_znPending f_znResult f_cvKind f_cvLeft f_cvRight f_cvWide f_inHead f_inSize f_outHead f_outSize f_lastDetail f_running f_linkFrom f_exitKind f_controlDone f_trapCode f_trapDetail y_inp y_outp a_mem a_visitCount a_inQueue a_outQueue a_blockStart a_blockCount a_blockRecent a_links a_entry a_cover a_opKind a_opMode a_opArg g h1
    omega
  | succ d IH =>
    intro left hld j n k0 hd p y_fl f_executedCount f_regA f_regX f_regS f_flagBits f_znPending f_znResult f_cvKind f_cvLeft f_cvRight f_cvWide f_inHead f_inSize f_outHead f_outSize f_lastDetail f_running f_linkFrom f_exitKind f_controlDone f_trapCode f_trapDetail y_inp y_outp a_mem a_visitCount a_inQueue a_outQueue a_blockStart a_blockCount a_blockRecent a_links a_entry a_cover a_opKind a_opMode a_opArg g h1 hfu hj hn hhd hp G C L hY
    obtain ⟨n, rfl⟩ : ∃ m, n = m + 1 + 1 := ⟨n - 2, by omega⟩
    refine br_f (nI_nlt (a := 400) (by omega) (by decide)) ?_
    refine br_t rfl ?_
    refine pk_lt p sz (fun l => ?_) (fun l => ?_)
    · refine xf_find hz l hl1 hl hc1 hc8 hhd G.2.2.2.1 C L ?_
      intro t ct hd' g1 run1 lf1 bs1 bc1 br1 lk1 en1 cv1 oK1 oM1 oA1 ht hhd1 hg1 C1
      refine rb_run (f_size := 0) (f_pc := 0) (g := g1) (tb := tb) (YS := YS) (y_fl := y_fl) (y_inp := y_inp) (y_outp := y_outp) (y_scr := y_scr) hz32 hz ht h1 hfu hf4 G C1 hg1 hY ?_ ?_
      · intro i wn q fl lf ek cd ex inp outp vc g2 A X S fb zp zr ck cl' cr cw ih is oh os mem iq oq bs bc br lk en cv hi hw hq G2 C2 L2 hcd hY2
        have eleft : nI left - nI (i + 1) = nI (left - (i + 1)) := pk_sub (by omega)
        refine nm_r eleft ?_
        -- the four ends and the next round
        have F : ∀ (code detail : Int32), ¬ code = 0 → (∀ pY : Int32 → SY → Prop, pY code (is, os, nI sz, A, X, S, nI q, fl, ex, f_lastCode, detail, mem, y_scr, vc, a_marks, inp, outp) → YS pY) →
            ∀ x5 : Int32, x5 = nI j + 1 → wX_dispatch_13 post tb (n + 1) (nI (left - (i + 1))) code x5 (nI sz) ex A X S (nI q) fb zp zr ck cl' cr cw ih is oh os f_lastCode detail (nI cl) (nI ll) (nI hd') (-1) lf ek cd 0 0 mem a_marks vc iq oq bs bc br lk en cv oK1 oM1 oA1 := by
          intro code detail hc h x5 _
          refine rd_end hc ?_
          exact KF hd' q code detail fl ex A X S fb zp zr ck cl' cr cw ih is oh os detail (-1) lf ek cd 0 0 inp outp mem vc iq oq bs bc br lk en cv oK1 oM1 oA1 g2 hhd1 hq G2 C2 h
        have hb : ∀ (h : tb = 0 ∨ cd = 0), tb = 0 ∨ ¬ (16 ≤ wn / 256 ∧ wn / 256 ≤ 29) := by
          intro h
          rcases h with h | h
          · exact Or.inl h
          · rcases hcd with ⟨_, c⟩ | ⟨c, _⟩
            · exact Or.inr c
            · rw [h] at c; exact absurd c (by decide)
        have W74 : (q < sz → a_marks q = 0) → (tb = 0 ∨ cd = 0) → wX_stopAfterBlock_74 (fun r u => match u with | (z0, z1, z2, z3, z4, z5, z6, z7, z8, z9, z10, z11, z12, z13, z14, z15, z16, z17, z18, z19, z20, z21, z22, z23, z24, z25, z26, z27, z28, z29, z30, z31, z32, z33, z34, z35, z36, z37, z38, z39, z40, z41) => (∀ x5 : Int32, x5 = nI j + 1 → wX_dispatch_13 post tb (n + 1) (nI (left - (i + 1))) r x5 z0 z1 z2 z3 z4 z5 z6 z7 z8 z9 z10 z11 z12 z13 z14 z15 z16 z17 z18 z19 z20 z21 z22 z23 z24 z25 z26 z27 z28 z29 z30 z31 z32 z33 z34 z35 z36 z37 z38 z39 z40 z41)) (nI (left - (i + 1))) (nI sz) ex A X S (nI q) fb zp zr ck cl' cr cw ih is oh os f_lastCode f_lastDetail (nI cl) (nI ll) (nI hd') (-1) lf ek cd 0 0 mem a_marks vc iq oq bs bc br lk en cv oK1 oM1 oA1 := by
          intro hm htb
          refine pk_lt 0 (left - (i + 1)) (fun l2 => ?_) (fun l2 => ?_)
          · refine nm_r (e' := nI (j + 1)) (nI_1 j) ?_
            refine IH (left - (i + 1)) (by omega) (j + 1) (n + 1) (k0 + (i + 1)) hd' q fl ex A X S fb zp zr ck cl' cr cw ih is oh os f_lastDetail (-1) lf ek cd 0 0 inp outp mem vc iq oq bs bc br lk en cv oK1 oM1 oA1 g2 (by omega) (by omega) (by omega) (by omega) hhd1 hq G2 C2 L2 ?_
            intro pY h
            refine hY2 pY ?_
            have e2 : fuel - (k0 + (i + 1)) + 1 = fuel - (k0 + i) := by omega
            rw [e2] at h
            exact ry_next hw hz hq (hb htb) hm h
          · refine F 1 0 (by decide) ?_
            intro pY h
            refine hY2 pY ?_
            refine ry_next hw hz hq (hb htb) hm ?_
            obtain ⟨m, hm2⟩ : ∃ m, fuel - (k0 + i) = m + 1 := ⟨fuel - (k0 + i) - 1, by omega⟩
            rw [hm2]
            exact ry_fuel (nI_le (by omega) (by omega)) h
        have W53 : (q < sz → a_marks q = 0) → wX_stopAfterBlock_53 (fun r u => match u with | (z0, z1, z2, z3, z4, z5, z6, z7, z8, z9, z10, z11, z12, z13, z14, z15, z16, z17, z18, z19, z20, z21, z22, z23, z24, z25, z26, z27, z28, z29, z30, z31, z32, z33, z34, z35, z36, z37, z38, z39, z40, z41) => (∀ x5 : Int32, x5 = nI j + 1 → wX_dispatch_13 post tb (n + 1) (nI (left - (i + 1))) r x5 z0 z1 z2 z3 z4 z5 z6 z7 z8 z9 z10 z11 z12 z13 z14 z15 z16 z17 z18 z19 z20 z21 z22 z23 z24 z25 z26 z27 z28 z29 z30 z31 z32 z33 z34 z35 z36 z37 z38 z39 z40 z41)) (nI (left - (i + 1))) tb (nI sz) ex A X S (nI q) fb zp zr ck cl' cr cw ih is oh os f_lastCode f_lastDetail (nI cl) (nI ll) (nI hd') (-1) lf ek cd 0 0 mem a_marks vc iq oq bs bc br lk en cv oK1 oM1 oA1 := by
          intro hm
          refine br_c (fun h2 => W74 hm (Or.inl h2)) (fun h2 => ?_)
          refine br_c (fun h3 => W74 hm (Or.inr h3)) (fun h3 => ?_)
          refine F 4 (nI q) (by decide) ?_
          intro pY h
          refine hY2 pY ?_
          have hctl : 16 ≤ wn / 256 ∧ wn / 256 ≤ 29 := by
            rcases hcd with ⟨c, _⟩ | ⟨_, c⟩
            · exact absurd c h3
            · exact c
          exact ry_branch hw hz hq h2 hctl hm h
        refine br_t rfl ?_
        refine pk_le sz q (fun l2 => W53 (by omega)) (fun l2 => ?_)
        refine And.intro (vp_in_nI (by omega) (by decide)) ?_
        refine br_c (fun e => ?_) (fun e => ?_)
        · rw [nI_clamp (by omega)] at e
          exact W53 (fun _ => e)
        · rw [nI_clamp (by omega)] at e
          refine F 3 (nI q) (by decide) ?_
          intro pY h
          refine hY2 pY ?_
          exact ry_mark hz l2 e h
      · intro i q fl code detail ex inp outp vc g2 A X S fb zp zr ck cl' cr cw ih is oh os mem iq oq bs bc br lk en cv hi hq hc G2 C2 hY2
        have eleft : nI left - nI i = nI (left - i) := pk_sub (by omega)
        refine nm_r eleft ?_
        refine br_f hc ?_
        refine nm_e ?_
        refine rd_end hc ?_
        exact KF hd' q code detail fl ex A X S fb zp zr ck cl' cr cw ih is oh os detail (-1) (-1) 0 0 code detail inp outp mem vc iq oq bs bc br lk en cv oK1 oM1 oA1 g2 hhd1 hq G2 C2 hY2
    · refine nm_e ?_
      refine rd_end (by decide) ?_
      refine KF hd p 7 (nI p) y_fl f_executedCount f_regA f_regX f_regS f_flagBits f_znPending f_znResult f_cvKind f_cvLeft f_cvRight f_cvWide f_inHead f_inSize f_outHead f_outSize f_lastDetail f_running f_linkFrom f_exitKind f_controlDone f_trapCode f_trapDetail y_inp y_outp a_mem a_visitCount a_inQueue a_outQueue a_blockStart a_blockCount a_blockRecent a_links a_entry a_cover a_opKind a_opMode a_opArg g hhd hp G C ?_
      intro pY h
      refine hY pY ?_
      exact ry_fetch (nI_ge (by omega) (by omega)) (nI_nlt l (by omega)) h
end RD
end
section
/-! the relation -/
def re_R (sz cl ll hd p : Nat) (g : Nat → Option (Nat × Nat)) (y_fl : Int32) (y_inp y_outp : Nat → Int32) (f_size f_executedCount f_regA f_regX f_regS f_pc f_flagBits f_znPending f_znResult f_cvKind f_cvLeft f_cvRight f_cvWide f_inHead f_inSize f_outHead f_outSize f_lastCode f_lastDetail f_cacheLimit f_lengthLimit f_hand f_running f_linkFrom f_exitKind f_controlDone f_trapCode f_trapDetail : Int32) (a_mem a_marks a_visitCount a_inQueue a_outQueue a_blockStart a_blockCount a_blockRecent a_links a_entry a_cover a_opKind a_opMode a_opArg : Nat → Int32) : Prop :=
  (32 ≤ sz ∧ sz ≤ 256 ∧ 1 ≤ cl ∧ cl ≤ 8 ∧ 1 ≤ ll ∧ ll ≤ 16 ∧ hd < cl ∧ p < 65536) ∧
  sp_G f_regA f_regX f_regS y_fl f_flagBits f_znPending f_znResult f_cvKind f_cvLeft f_cvRight f_cvWide f_inHead f_inSize f_outHead f_outSize a_mem a_inQueue a_outQueue y_inp y_outp ∧
  ca_CI sz g a_mem a_marks a_blockStart a_blockCount a_links a_entry a_cover a_opKind a_opMode a_opArg
/-- the two machines hold the same guest; the cache is consistent with memory and marks -/
def i_Rel (k : Nat) (u : SX) (v : SY) : Prop :=
  ∃ (sz cl ll hd p : Nat) (g : Nat → Option (Nat × Nat)) (y_fl : Int32) (y_scr y_inp y_outp : Nat → Int32),
    u = (nI sz, u.2.1, u.2.2.1, u.2.2.2.1, u.2.2.2.2.1, nI p, u.2.2.2.2.2.2.1, u.2.2.2.2.2.2.2.1, u.2.2.2.2.2.2.2.2.1, u.2.2.2.2.2.2.2.2.2.1, u.2.2.2.2.2.2.2.2.2.2.1, u.2.2.2.2.2.2.2.2.2.2.2.1, u.2.2.2.2.2.2.2.2.2.2.2.2.1, u.2.2.2.2.2.2.2.2.2.2.2.2.2.1, u.2.2.2.2.2.2.2.2.2.2.2.2.2.2.1, u.2.2.2.2.2.2.2.2.2.2.2.2.2.2.2.1, u.2.2.2.2.2.2.2.2.2.2.2.2.2.2.2.2.1, u.2.2.2.2.2.2.2.2.2.2.2.2.2.2.2.2.2.1, u.2.2.2.2.2.2.2.2.2.2.2.2.2.2.2.2.2.2.1, nI cl, nI ll, nI hd, u.2.2.2.2.2.2.2.2.2.2.2.2.2.2.2.2.2.2.2.2.2.2.1, u.2.2.2.2.2.2.2.2.2.2.2.2.2.2.2.2.2.2.2.2.2.2.2.1, u.2.2.2.2.2.2.2.2.2.2.2.2.2.2.2.2.2.2.2.2.2.2.2.2.1, u.2.2.2.2.2.2.2.2.2.2.2.2.2.2.2.2.2.2.2.2.2.2.2.2.2.1, u.2.2.2.2.2.2.2.2.2.2.2.2.2.2.2.2.2.2.2.2.2.2.2.2.2.2.1, u.2.2.2.2.2.2.2.2.2.2.2.2.2.2.2.2.2.2.2.2.2.2.2.2.2.2.2.1, u.2.2.2.2.2.2.2.2.2.2.2.2.2.2.2.2.2.2.2.2.2.2.2.2.2.2.2.2.1, u.2.2.2.2.2.2.2.2.2.2.2.2.2.2.2.2.2.2.2.2.2.2.2.2.2.2.2.2.2.1, u.2.2.2.2.2.2.2.2.2.2.2.2.2.2.2.2.2.2.2.2.2.2.2.2.2.2.2.2.2.2.1, u.2.2.2.2.2.2.2.2.2.2.2.2.2.2.2.2.2.2.2.2.2.2.2.2.2.2.2.2.2.2.2.1, u.2.2.2.2.2.2.2.2.2.2.2.2.2.2.2.2.2.2.2.2.2.2.2.2.2.2.2.2.2.2.2.2.1, u.2.2.2.2.2.2.2.2.2.2.2.2.2.2.2.2.2.2.2.2.2.2.2.2.2.2.2.2.2.2.2.2.2.1, u.2.2.2.2.2.2.2.2.2.2.2.2.2.2.2.2.2.2.2.2.2.2.2.2.2.2.2.2.2.2.2.2.2.2.1, u.2.2.2.2.2.2.2.2.2.2.2.2.2.2.2.2.2.2.2.2.2.2.2.2.2.2.2.2.2.2.2.2.2.2.2.1, u.2.2.2.2.2.2.2.2.2.2.2.2.2.2.2.2.2.2.2.2.2.2.2.2.2.2.2.2.2.2.2.2.2.2.2.2.1, u.2.2.2.2.2.2.2.2.2.2.2.2.2.2.2.2.2.2.2.2.2.2.2.2.2.2.2.2.2.2.2.2.2.2.2.2.2.1, u.2.2.2.2.2.2.2.2.2.2.2.2.2.2.2.2.2.2.2.2.2.2.2.2.2.2.2.2.2.2.2.2.2.2.2.2.2.2.1, u.2.2.2.2.2.2.2.2.2.2.2.2.2.2.2.2.2.2.2.2.2.2.2.2.2.2.2.2.2.2.2.2.2.2.2.2.2.2.2.1, u.2.2.2.2.2.2.2.2.2.2.2.2.2.2.2.2.2.2.2.2.2.2.2.2.2.2.2.2.2.2.2.2.2.2.2.2.2.2.2.2.1, u.2.2.2.2.2.2.2.2.2.2.2.2.2.2.2.2.2.2.2.2.2.2.2.2.2.2.2.2.2.2.2.2.2.2.2.2.2.2.2.2.2) ∧
    v = (u.2.2.2.2.2.2.2.2.2.2.2.2.2.2.1, u.2.2.2.2.2.2.2.2.2.2.2.2.2.2.2.2.1, nI sz, u.2.2.1, u.2.2.2.1, u.2.2.2.2.1, nI p, y_fl, u.2.1, u.2.2.2.2.2.2.2.2.2.2.2.2.2.2.2.2.2.1, u.2.2.2.2.2.2.2.2.2.2.2.2.2.2.2.2.2.2.1, u.2.2.2.2.2.2.2.2.2.2.2.2.2.2.2.2.2.2.2.2.2.2.2.2.2.2.2.2.1, y_scr, u.2.2.2.2.2.2.2.2.2.2.2.2.2.2.2.2.2.2.2.2.2.2.2.2.2.2.2.2.2.2.1, u.2.2.2.2.2.2.2.2.2.2.2.2.2.2.2.2.2.2.2.2.2.2.2.2.2.2.2.2.2.1, y_inp, y_outp) ∧ re_R sz cl ll hd p g y_fl y_inp y_outp u.1 u.2.1 u.2.2.1 u.2.2.2.1 u.2.2.2.2.1 u.2.2.2.2.2.1 u.2.2.2.2.2.2.1 u.2.2.2.2.2.2.2.1 u.2.2.2.2.2.2.2.2.1 u.2.2.2.2.2.2.2.2.2.1 u.2.2.2.2.2.2.2.2.2.2.1 u.2.2.2.2.2.2.2.2.2.2.2.1 u.2.2.2.2.2.2.2.2.2.2.2.2.1 u.2.2.2.2.2.2.2.2.2.2.2.2.2.1 u.2.2.2.2.2.2.2.2.2.2.2.2.2.2.1 u.2.2.2.2.2.2.2.2.2.2.2.2.2.2.2.1 u.2.2.2.2.2.2.2.2.2.2.2.2.2.2.2.2.1 u.2.2.2.2.2.2.2.2.2.2.2.2.2.2.2.2.2.1 u.2.2.2.2.2.2.2.2.2.2.2.2.2.2.2.2.2.2.1 u.2.2.2.2.2.2.2.2.2.2.2.2.2.2.2.2.2.2.2.1 u.2.2.2.2.2.2.2.2.2.2.2.2.2.2.2.2.2.2.2.2.1 u.2.2.2.2.2.2.2.2.2.2.2.2.2.2.2.2.2.2.2.2.2.1 u.2.2.2.2.2.2.2.2.2.2.2.2.2.2.2.2.2.2.2.2.2.2.1 u.2.2.2.2.2.2.2.2.2.2.2.2.2.2.2.2.2.2.2.2.2.2.2.1 u.2.2.2.2.2.2.2.2.2.2.2.2.2.2.2.2.2.2.2.2.2.2.2.2.1 u.2.2.2.2.2.2.2.2.2.2.2.2.2.2.2.2.2.2.2.2.2.2.2.2.2.1 u.2.2.2.2.2.2.2.2.2.2.2.2.2.2.2.2.2.2.2.2.2.2.2.2.2.2.1 u.2.2.2.2.2.2.2.2.2.2.2.2.2.2.2.2.2.2.2.2.2.2.2.2.2.2.2.1 u.2.2.2.2.2.2.2.2.2.2.2.2.2.2.2.2.2.2.2.2.2.2.2.2.2.2.2.2.1 u.2.2.2.2.2.2.2.2.2.2.2.2.2.2.2.2.2.2.2.2.2.2.2.2.2.2.2.2.2.1 u.2.2.2.2.2.2.2.2.2.2.2.2.2.2.2.2.2.2.2.2.2.2.2.2.2.2.2.2.2.2.1 u.2.2.2.2.2.2.2.2.2.2.2.2.2.2.2.2.2.2.2.2.2.2.2.2.2.2.2.2.2.2.2.1 u.2.2.2.2.2.2.2.2.2.2.2.2.2.2.2.2.2.2.2.2.2.2.2.2.2.2.2.2.2.2.2.2.1 u.2.2.2.2.2.2.2.2.2.2.2.2.2.2.2.2.2.2.2.2.2.2.2.2.2.2.2.2.2.2.2.2.2.1 u.2.2.2.2.2.2.2.2.2.2.2.2.2.2.2.2.2.2.2.2.2.2.2.2.2.2.2.2.2.2.2.2.2.2.1 u.2.2.2.2.2.2.2.2.2.2.2.2.2.2.2.2.2.2.2.2.2.2.2.2.2.2.2.2.2.2.2.2.2.2.2.1 u.2.2.2.2.2.2.2.2.2.2.2.2.2.2.2.2.2.2.2.2.2.2.2.2.2.2.2.2.2.2.2.2.2.2.2.2.1 u.2.2.2.2.2.2.2.2.2.2.2.2.2.2.2.2.2.2.2.2.2.2.2.2.2.2.2.2.2.2.2.2.2.2.2.2.2.1 u.2.2.2.2.2.2.2.2.2.2.2.2.2.2.2.2.2.2.2.2.2.2.2.2.2.2.2.2.2.2.2.2.2.2.2.2.2.2.1 u.2.2.2.2.2.2.2.2.2.2.2.2.2.2.2.2.2.2.2.2.2.2.2.2.2.2.2.2.2.2.2.2.2.2.2.2.2.2.2.1 u.2.2.2.2.2.2.2.2.2.2.2.2.2.2.2.2.2.2.2.2.2.2.2.2.2.2.2.2.2.2.2.2.2.2.2.2.2.2.2.2.1 u.2.2.2.2.2.2.2.2.2.2.2.2.2.2.2.2.2.2.2.2.2.2.2.2.2.2.2.2.2.2.2.2.2.2.2.2.2.2.2.2.2
theorem i_up {k : Nat} {u : SX} {v : SY} (h : i_Rel k u v) : i_Rel (k + 4) u v := h
theorem re_el {P : SX → SY → Prop} {k : Nat} {u : SX} {v : SY} (h : ∀ (sz cl ll hd p : Nat) (g : Nat → Option (Nat × Nat)) (y_fl : Int32) (y_scr y_inp y_outp : Nat → Int32) (f_size f_executedCount f_regA f_regX f_regS f_pc f_flagBits f_znPending f_znResult f_cvKind f_cvLeft f_cvRight f_cvWide f_inHead f_inSize f_outHead f_outSize f_lastCode f_lastDetail f_cacheLimit f_lengthLimit f_hand f_running f_linkFrom f_exitKind f_controlDone f_trapCode f_trapDetail : Int32) (a_mem a_marks a_visitCount a_inQueue a_outQueue a_blockStart a_blockCount a_blockRecent a_links a_entry a_cover a_opKind a_opMode a_opArg : Nat → Int32),
      re_R sz cl ll hd p g y_fl y_inp y_outp f_size f_executedCount f_regA f_regX f_regS f_pc f_flagBits f_znPending f_znResult f_cvKind f_cvLeft f_cvRight f_cvWide f_inHead f_inSize f_outHead f_outSize f_lastCode f_lastDetail f_cacheLimit f_lengthLimit f_hand f_running f_linkFrom f_exitKind f_controlDone f_trapCode f_trapDetail a_mem a_marks a_visitCount a_inQueue a_outQueue a_blockStart a_blockCount a_blockRecent a_links a_entry a_cover a_opKind a_opMode a_opArg → P (nI sz, f_executedCount, f_regA, f_regX, f_regS, nI p, f_flagBits, f_znPending, f_znResult, f_cvKind, f_cvLeft, f_cvRight, f_cvWide, f_inHead, f_inSize, f_outHead, f_outSize, f_lastCode, f_lastDetail, nI cl, nI ll, nI hd, f_running, f_linkFrom, f_exitKind, f_controlDone, f_trapCode, f_trapDetail, a_mem, a_marks, a_visitCount, a_inQueue, a_outQueue, a_blockStart, a_blockCount, a_blockRecent, a_links, a_entry, a_cover, a_opKind, a_opMode, a_opArg) (f_inSize, f_outSize, nI sz, f_regA, f_regX, f_regS, nI p, y_fl, f_executedCount, f_lastCode, f_lastDetail, a_mem, y_scr, a_visitCount, a_marks, y_inp, y_outp)) (I : i_Rel k u v) : P u v :=
  I.elim fun sz I => I.elim fun cl I => I.elim fun ll I => I.elim fun hd I => I.elim fun p I => I.elim fun g I => I.elim fun y_fl I => I.elim fun y_scr I => I.elim fun y_inp I => I.elim fun y_outp I =>
    (congr (congrArg P I.1) I.2.1).mpr (h sz cl ll hd p g y_fl y_scr y_inp y_outp u.1 u.2.1 u.2.2.1 u.2.2.2.1 u.2.2.2.2.1 u.2.2.2.2.2.1 u.2.2.2.2.2.2.1 u.2.2.2.2.2.2.2.1 u.2.2.2.2.2.2.2.2.1 u.2.2.2.2.2.2.2.2.2.1 u.2.2.2.2.2.2.2.2.2.2.1 u.2.2.2.2.2.2.2.2.2.2.2.1 u.2.2.2.2.2.2.2.2.2.2.2.2.1 u.2.2.2.2.2.2.2.2.2.2.2.2.2.1 u.2.2.2.2.2.2.2.2.2.2.2.2.2.2.1 u.2.2.2.2.2.2.2.2.2.2.2.2.2.2.2.1 u.2.2.2.2.2.2.2.2.2.2.2.2.2.2.2.2.1 u.2.2.2.2.2.2.2.2.2.2.2.2.2.2.2.2.2.1 u.2.2.2.2.2.2.2.2.2.2.2.2.2.2.2.2.2.2.1 u.2.2.2.2.2.2.2.2.2.2.2.2.2.2.2.2.2.2.2.1 u.2.2.2.2.2.2.2.2.2.2.2.2.2.2.2.2.2.2.2.2.1 u.2.2.2.2.2.2.2.2.2.2.2.2.2.2.2.2.2.2.2.2.2.1 u.2.2.2.2.2.2.2.2.2.2.2.2.2.2.2.2.2.2.2.2.2.2.1 u.2.2.2.2.2.2.2.2.2.2.2.2.2.2.2.2.2.2.2.2.2.2.2.1 u.2.2.2.2.2.2.2.2.2.2.2.2.2.2.2.2.2.2.2.2.2.2.2.2.1 u.2.2.2.2.2.2.2.2.2.2.2.2.2.2.2.2.2.2.2.2.2.2.2.2.2.1 u.2.2.2.2.2.2.2.2.2.2.2.2.2.2.2.2.2.2.2.2.2.2.2.2.2.2.1 u.2.2.2.2.2.2.2.2.2.2.2.2.2.2.2.2.2.2.2.2.2.2.2.2.2.2.2.1 u.2.2.2.2.2.2.2.2.2.2.2.2.2.2.2.2.2.2.2.2.2.2.2.2.2.2.2.2.1 u.2.2.2.2.2.2.2.2.2.2.2.2.2.2.2.2.2.2.2.2.2.2.2.2.2.2.2.2.2.1 u.2.2.2.2.2.2.2.2.2.2.2.2.2.2.2.2.2.2.2.2.2.2.2.2.2.2.2.2.2.2.1 u.2.2.2.2.2.2.2.2.2.2.2.2.2.2.2.2.2.2.2.2.2.2.2.2.2.2.2.2.2.2.2.1 u.2.2.2.2.2.2.2.2.2.2.2.2.2.2.2.2.2.2.2.2.2.2.2.2.2.2.2.2.2.2.2.2.1 u.2.2.2.2.2.2.2.2.2.2.2.2.2.2.2.2.2.2.2.2.2.2.2.2.2.2.2.2.2.2.2.2.2.1 u.2.2.2.2.2.2.2.2.2.2.2.2.2.2.2.2.2.2.2.2.2.2.2.2.2.2.2.2.2.2.2.2.2.2.1 u.2.2.2.2.2.2.2.2.2.2.2.2.2.2.2.2.2.2.2.2.2.2.2.2.2.2.2.2.2.2.2.2.2.2.2.1 u.2.2.2.2.2.2.2.2.2.2.2.2.2.2.2.2.2.2.2.2.2.2.2.2.2.2.2.2.2.2.2.2.2.2.2.2.1 u.2.2.2.2.2.2.2.2.2.2.2.2.2.2.2.2.2.2.2.2.2.2.2.2.2.2.2.2.2.2.2.2.2.2.2.2.2.1 u.2.2.2.2.2.2.2.2.2.2.2.2.2.2.2.2.2.2.2.2.2.2.2.2.2.2.2.2.2.2.2.2.2.2.2.2.2.2.1 u.2.2.2.2.2.2.2.2.2.2.2.2.2.2.2.2.2.2.2.2.2.2.2.2.2.2.2.2.2.2.2.2.2.2.2.2.2.2.2.1 u.2.2.2.2.2.2.2.2.2.2.2.2.2.2.2.2.2.2.2.2.2.2.2.2.2.2.2.2.2.2.2.2.2.2.2.2.2.2.2.2.1 u.2.2.2.2.2.2.2.2.2.2.2.2.2.2.2.2.2.2.2.2.2.2.2.2.2.2.2.2.2.2.2.2.2.2.2.2.2.2.2.2.2 I.2.2)
section RE
variable {f_size f_executedCount f_regA f_regX f_regS f_pc f_flagBits f_znPending f_znResult f_cvKind f_cvLeft f_cvRight f_cvWide f_inHead f_inSize f_outHead f_outSize f_lastCode f_lastDetail f_cacheLimit f_lengthLimit f_hand f_running f_linkFrom f_exitKind f_controlDone f_trapCode f_trapDetail : Int32} {a_mem a_marks a_visitCount a_inQueue a_outQueue a_blockStart a_blockCount a_blockRecent a_links a_entry a_cover a_opKind a_opMode a_opArg : Nat → Int32}
variable {y_fl : Int32} {y_scr y_inp y_outp : Nat → Int32}
variable {sz cl ll hd p : Nat} {g : Nat → Option (Nat × Nat)}
theorem re_in {k : Nat} (R : re_R sz cl ll hd p g y_fl y_inp y_outp f_size f_executedCount f_regA f_regX f_regS f_pc f_flagBits f_znPending f_znResult f_cvKind f_cvLeft f_cvRight f_cvWide f_inHead f_inSize f_outHead f_outSize f_lastCode f_lastDetail f_cacheLimit f_lengthLimit f_hand f_running f_linkFrom f_exitKind f_controlDone f_trapCode f_trapDetail a_mem a_marks a_visitCount a_inQueue a_outQueue a_blockStart a_blockCount a_blockRecent a_links a_entry a_cover a_opKind a_opMode a_opArg) : i_Rel k (nI sz, f_executedCount, f_regA, f_regX, f_regS, nI p, f_flagBits, f_znPending, f_znResult, f_cvKind, f_cvLeft, f_cvRight, f_cvWide, f_inHead, f_inSize, f_outHead, f_outSize, f_lastCode, f_lastDetail, nI cl, nI ll, nI hd, f_running, f_linkFrom, f_exitKind, f_controlDone, f_trapCode, f_trapDetail, a_mem, a_marks, a_visitCount, a_inQueue, a_outQueue, a_blockStart, a_blockCount, a_blockRecent, a_links, a_entry, a_cover, a_opKind, a_opMode, a_opArg) (f_inSize, f_outSize, nI sz, f_regA, f_regX, f_regS, nI p, y_fl, f_executedCount, f_lastCode, f_lastDetail, a_mem, y_scr, a_visitCount, a_marks, y_inp, y_outp) :=
  ⟨sz, cl, ll, hd, p, g, y_fl, y_scr, y_inp, y_outp, rfl, rfl, R⟩
theorem re_mk {k : Nat} (R0 : 32 ≤ sz ∧ sz ≤ 256 ∧ 1 ≤ cl ∧ cl ≤ 8 ∧ 1 ≤ ll ∧ ll ≤ 16 ∧ hd < cl ∧ p < 65536) (G : sp_G f_regA f_regX f_regS y_fl f_flagBits f_znPending f_znResult f_cvKind f_cvLeft f_cvRight f_cvWide f_inHead f_inSize f_outHead f_outSize a_mem a_inQueue a_outQueue y_inp y_outp) (C : ca_CI sz g a_mem a_marks a_blockStart a_blockCount a_links a_entry a_cover a_opKind a_opMode a_opArg) : i_Rel k (nI sz, f_executedCount, f_regA, f_regX, f_regS, nI p, f_flagBits, f_znPending, f_znResult, f_cvKind, f_cvLeft, f_cvRight, f_cvWide, f_inHead, f_inSize, f_outHead, f_outSize, f_lastCode, f_lastDetail, nI cl, nI ll, nI hd, f_running, f_linkFrom, f_exitKind, f_controlDone, f_trapCode, f_trapDetail, a_mem, a_marks, a_visitCount, a_inQueue, a_outQueue, a_blockStart, a_blockCount, a_blockRecent, a_links, a_entry, a_cover, a_opKind, a_opMode, a_opArg) (f_inSize, f_outSize, nI sz, f_regA, f_regX, f_regS, nI p, y_fl, f_executedCount, f_lastCode, f_lastDetail, a_mem, y_scr, a_visitCount, a_marks, y_inp, y_outp) :=
  ⟨sz, cl, ll, hd, p, g, y_fl, y_scr, y_inp, y_outp, rfl, rfl, R0, G, C⟩
theorem re_nlt {v : Int32} {n : Nat} (h : nI n ≤ v) (hn : n < 2 ^ 31) : ¬ v < 0 := fun q => absurd (Int32.lt_of_le_of_lt h q) (nI_pos hn)
end RE
/-! reading methods -/
theorem i_vc_memoryWords {k : Nat} {u : SX} {v : SY} (I : i_Rel k u v) (hk : k + 4 ≤ 2051) : wpX_memoryWords (fun r => wpY_memoryWords (fun r' => r' = r ∧ i_Rel (k + 4) u v) v) u := by
  refine re_el (P := fun u v => wpX_memoryWords (fun r => wpY_memoryWords (fun r' => r' = r ∧ i_Rel (k + 4) u v) v) u) ?_ I
  intro sz cl ll hd p g y_fl y_scr y_inp y_outp f_size f_executedCount f_regA f_regX f_regS f_pc f_flagBits f_znPending f_znResult f_cvKind f_cvLeft f_cvRight f_cvWide f_inHead f_inSize f_outHead f_outSize f_lastCode f_lastDetail f_cacheLimit f_lengthLimit f_hand f_running f_linkFrom f_exitKind f_controlDone f_trapCode f_trapDetail a_mem a_marks a_visitCount a_inQueue a_outQueue a_blockStart a_blockCount a_blockRecent a_links a_entry a_cover a_opKind a_opMode a_opArg R
  exact ⟨rfl, re_in R⟩
theorem i_vc_inputCount {k : Nat} {u : SX} {v : SY} (I : i_Rel k u v) (hk : k + 4 ≤ 2051) : wpX_inputCount (fun r => wpY_inputCount (fun r' => r' = r ∧ i_Rel (k + 4) u v) v) u := by
  refine re_el (P := fun u v => wpX_inputCount (fun r => wpY_inputCount (fun r' => r' = r ∧ i_Rel (k + 4) u v) v) u) ?_ I
  intro sz cl ll hd p g y_fl y_scr y_inp y_outp f_size f_executedCount f_regA f_regX f_regS f_pc f_flagBits f_znPending f_znResult f_cvKind f_cvLeft f_cvRight f_cvWide f_inHead f_inSize f_outHead f_outSize f_lastCode f_lastDetail f_cacheLimit f_lengthLimit f_hand f_running f_linkFrom f_exitKind f_controlDone f_trapCode f_trapDetail a_mem a_marks a_visitCount a_inQueue a_outQueue a_blockStart a_blockCount a_blockRecent a_links a_entry a_cover a_opKind a_opMode a_opArg R
  exact ⟨rfl, re_in R⟩
theorem i_vc_outputCount {k : Nat} {u : SX} {v : SY} (I : i_Rel k u v) (hk : k + 4 ≤ 2051) : wpX_outputCount (fun r => wpY_outputCount (fun r' => r' = r ∧ i_Rel (k + 4) u v) v) u := by
  refine re_el (P := fun u v => wpX_outputCount (fun r => wpY_outputCount (fun r' => r' = r ∧ i_Rel (k + 4) u v) v) u) ?_ I
  intro sz cl ll hd p g y_fl y_scr y_inp y_outp f_size f_executedCount f_regA f_regX f_regS f_pc f_flagBits f_znPending f_znResult f_cvKind f_cvLeft f_cvRight f_cvWide f_inHead f_inSize f_outHead f_outSize f_lastCode f_lastDetail f_cacheLimit f_lengthLimit f_hand f_running f_linkFrom f_exitKind f_controlDone f_trapCode f_trapDetail a_mem a_marks a_visitCount a_inQueue a_outQueue a_blockStart a_blockCount a_blockRecent a_links a_entry a_cover a_opKind a_opMode a_opArg R
  exact ⟨rfl, re_in R⟩
theorem i_vc_lastStop {k : Nat} {u : SX} {v : SY} (I : i_Rel k u v) (hk : k + 4 ≤ 2051) : wpX_lastStop (fun r => wpY_lastStop (fun r' => r' = r ∧ i_Rel (k + 4) u v) v) u := by
  refine re_el (P := fun u v => wpX_lastStop (fun r => wpY_lastStop (fun r' => r' = r ∧ i_Rel (k + 4) u v) v) u) ?_ I
  intro sz cl ll hd p g y_fl y_scr y_inp y_outp f_size f_executedCount f_regA f_regX f_regS f_pc f_flagBits f_znPending f_znResult f_cvKind f_cvLeft f_cvRight f_cvWide f_inHead f_inSize f_outHead f_outSize f_lastCode f_lastDetail f_cacheLimit f_lengthLimit f_hand f_running f_linkFrom f_exitKind f_controlDone f_trapCode f_trapDetail a_mem a_marks a_visitCount a_inQueue a_outQueue a_blockStart a_blockCount a_blockRecent a_links a_entry a_cover a_opKind a_opMode a_opArg R
  exact ⟨rfl, re_in R⟩
theorem i_vc_stopDetail {k : Nat} {u : SX} {v : SY} (I : i_Rel k u v) (hk : k + 4 ≤ 2051) : wpX_stopDetail (fun r => wpY_stopDetail (fun r' => r' = r ∧ i_Rel (k + 4) u v) v) u := by
  refine re_el (P := fun u v => wpX_stopDetail (fun r => wpY_stopDetail (fun r' => r' = r ∧ i_Rel (k + 4) u v) v) u) ?_ I
  intro sz cl ll hd p g y_fl y_scr y_inp y_outp f_size f_executedCount f_regA f_regX f_regS f_pc f_flagBits f_znPending f_znResult f_cvKind f_cvLeft f_cvRight f_cvWide f_inHead f_inSize f_outHead f_outSize f_lastCode f_lastDetail f_cacheLimit f_lengthLimit f_hand f_running f_linkFrom f_exitKind f_controlDone f_trapCode f_trapDetail a_mem a_marks a_visitCount a_inQueue a_outQueue a_blockStart a_blockCount a_blockRecent a_links a_entry a_cover a_opKind a_opMode a_opArg R
  exact ⟨rfl, re_in R⟩
theorem i_vc_executed {k : Nat} {u : SX} {v : SY} (I : i_Rel k u v) (hk : k + 4 ≤ 2051) : wpX_executed (fun r => wpY_executed (fun r' => r' = r ∧ i_Rel (k + 4) u v) v) u := by
  refine re_el (P := fun u v => wpX_executed (fun r => wpY_executed (fun r' => r' = r ∧ i_Rel (k + 4) u v) v) u) ?_ I
  intro sz cl ll hd p g y_fl y_scr y_inp y_outp f_size f_executedCount f_regA f_regX f_regS f_pc f_flagBits f_znPending f_znResult f_cvKind f_cvLeft f_cvRight f_cvWide f_inHead f_inSize f_outHead f_outSize f_lastCode f_lastDetail f_cacheLimit f_lengthLimit f_hand f_running f_linkFrom f_exitKind f_controlDone f_trapCode f_trapDetail a_mem a_marks a_visitCount a_inQueue a_outQueue a_blockStart a_blockCount a_blockRecent a_links a_entry a_cover a_opKind a_opMode a_opArg R
  exact ⟨rfl, re_in R⟩
theorem i_vc_peek {k : Nat} {u : SX} {v : SY} (I : i_Rel k u v) (hk : k + 4 ≤ 2051) (v1 : Int32) : wpX_peek (fun r => wpY_peek (fun r' => r' = r ∧ i_Rel (k + 4) u v) v v1) u v1 := by
  refine re_el (P := fun u v => wpX_peek (fun r => wpY_peek (fun r' => r' = r ∧ i_Rel (k + 4) u v) v v1) u v1) ?_ I
  intro sz cl ll hd p g y_fl y_scr y_inp y_outp f_size f_executedCount f_regA f_regX f_regS f_pc f_flagBits f_znPending f_znResult f_cvKind f_cvLeft f_cvRight f_cvWide f_inHead f_inSize f_outHead f_outSize f_lastCode f_lastDetail f_cacheLimit f_lengthLimit f_hand f_running f_linkFrom f_exitKind f_controlDone f_trapCode f_trapDetail a_mem a_marks a_visitCount a_inQueue a_outQueue a_blockStart a_blockCount a_blockRecent a_links a_entry a_cover a_opKind a_opMode a_opArg R
  have hz := R.1.2.1
  rcases pk_ix v1 (n := sz) (by omega) with h | h | ⟨j, hj, rfl⟩
  · exact br_t h (br_t h ⟨rfl, re_in R⟩)
  · have h0 := re_nlt h (by omega)
    have h1 : ¬ v1 < nI sz := Int32.not_lt.mpr h
    exact br_f h0 (br_f h1 (br_f h0 (br_f h1 ⟨rfl, re_in R⟩)))
  · have h0 : ¬ nI j < 0 := nI_pos (by omega)
    have h1 : nI j < nI sz := nI_lt hj (by omega)
    have hi : vp_in (nI j) 256 := vp_in_nI (by omega) (by decide)
    exact br_f h0 (br_t h1 (And.intro hi (br_f h0 (br_t h1 (And.intro hi ⟨rfl, re_in R⟩)))))
theorem i_vc_visits {k : Nat} {u : SX} {v : SY} (I : i_Rel k u v) (hk : k + 4 ≤ 2051) (v1 : Int32) : wpX_visits (fun r => wpY_visits (fun r' => r' = r ∧ i_Rel (k + 4) u v) v v1) u v1 := by
  refine re_el (P := fun u v => wpX_visits (fun r => wpY_visits (fun r' => r' = r ∧ i_Rel (k + 4) u v) v v1) u v1) ?_ I
  intro sz cl ll hd p g y_fl y_scr y_inp y_outp f_size f_executedCount f_regA f_regX f_regS f_pc f_flagBits f_znPending f_znResult f_cvKind f_cvLeft f_cvRight f_cvWide f_inHead f_inSize f_outHead f_outSize f_lastCode f_lastDetail f_cacheLimit f_lengthLimit f_hand f_running f_linkFrom f_exitKind f_controlDone f_trapCode f_trapDetail a_mem a_marks a_visitCount a_inQueue a_outQueue a_blockStart a_blockCount a_blockRecent a_links a_entry a_cover a_opKind a_opMode a_opArg R
  have hz := R.1.2.1
  rcases pk_ix v1 (n := sz) (by omega) with h | h | ⟨j, hj, rfl⟩
  · exact br_t h (br_t h ⟨rfl, re_in R⟩)
  · have h0 := re_nlt h (by omega)
    have h1 : ¬ v1 < nI sz := Int32.not_lt.mpr h
    exact br_f h0 (br_f h1 (br_f h0 (br_f h1 ⟨rfl, re_in R⟩)))
  · have h0 : ¬ nI j < 0 := nI_pos (by omega)
    have h1 : nI j < nI sz := nI_lt hj (by omega)
    have hi : vp_in (nI j) 256 := vp_in_nI (by omega) (by decide)
    exact br_f h0 (br_t h1 (And.intro hi (br_f h0 (br_t h1 (And.intro hi ⟨rfl, re_in R⟩)))))
theorem i_vc_breakpoint {k : Nat} {u : SX} {v : SY} (I : i_Rel k u v) (hk : k + 4 ≤ 2051) (v1 : Int32) : wpX_breakpoint (fun r => wpY_breakpoint (fun r' => r' = r ∧ i_Rel (k + 4) u v) v v1) u v1 := by
  refine re_el (P := fun u v => wpX_breakpoint (fun r => wpY_breakpoint (fun r' => r' = r ∧ i_Rel (k + 4) u v) v v1) u v1) ?_ I
  intro sz cl ll hd p g y_fl y_scr y_inp y_outp f_size f_executedCount f_regA f_regX f_regS f_pc f_flagBits f_znPending f_znResult f_cvKind f_cvLeft f_cvRight f_cvWide f_inHead f_inSize f_outHead f_outSize f_lastCode f_lastDetail f_cacheLimit f_lengthLimit f_hand f_running f_linkFrom f_exitKind f_controlDone f_trapCode f_trapDetail a_mem a_marks a_visitCount a_inQueue a_outQueue a_blockStart a_blockCount a_blockRecent a_links a_entry a_cover a_opKind a_opMode a_opArg R
  have hz := R.1.2.1
  rcases pk_ix v1 (n := sz) (by omega) with h | h | ⟨j, hj, rfl⟩
  · exact br_t h (br_t h ⟨rfl, re_in R⟩)
  · have h0 := re_nlt h (by omega)
    exact br_f h0 (br_t h (br_f h0 (br_t h ⟨rfl, re_in R⟩)))
  · have h0 : ¬ nI j < 0 := nI_pos (by omega)
    have h1 : ¬ nI sz ≤ nI j := nI_ge hj (by omega)
    have hi : vp_in (nI j) 256 := vp_in_nI (by omega) (by decide)
    refine br_f h0 (br_f h1 (And.intro hi (br_c (fun e => ?_) (fun e => ?_))))
    · exact br_f h0 (br_f h1 (And.intro hi (br_t e ⟨rfl, re_in R⟩)))
    · exact br_f h0 (br_f h1 (And.intro hi (br_f e ⟨rfl, re_in R⟩)))
theorem i_vc_inputWord {k : Nat} {u : SX} {v : SY} (I : i_Rel k u v) (hk : k + 4 ≤ 2051) (v1 : Int32) : wpX_inputWord (fun r => wpY_inputWord (fun r' => r' = r ∧ i_Rel (k + 4) u v) v v1) u v1 := by
  refine re_el (P := fun u v => wpX_inputWord (fun r => wpY_inputWord (fun r' => r' = r ∧ i_Rel (k + 4) u v) v v1) u v1) ?_ I
  intro sz cl ll hd p g y_fl y_scr y_inp y_outp f_size f_executedCount f_regA f_regX f_regS f_pc f_flagBits f_znPending f_znResult f_cvKind f_cvLeft f_cvRight f_cvWide f_inHead f_inSize f_outHead f_outSize f_lastCode f_lastDetail f_cacheLimit f_lengthLimit f_hand f_running f_linkFrom f_exitKind f_controlDone f_trapCode f_trapDetail a_mem a_marks a_visitCount a_inQueue a_outQueue a_blockStart a_blockCount a_blockRecent a_links a_entry a_cover a_opKind a_opMode a_opArg R
  obtain ⟨h', n, e1, e2, hh, hn, hy, hW⟩ := R.2.1.2.2.2.2.2.1
  subst e1 e2
  rcases pk_ix v1 (n := n) (by omega) with h | h | ⟨j, hj, rfl⟩
  · exact br_t h (br_t h ⟨rfl, re_in R⟩)
  · have h0 := re_nlt h (by omega)
    have h1 : ¬ v1 < nI n := Int32.not_lt.mpr h
    exact br_f h0 (br_f h1 (br_f h0 (br_f h1 ⟨rfl, re_in R⟩)))
  · have h0 : ¬ nI j < 0 := nI_pos (by omega)
    have h1 : nI j < nI n := nI_lt hj (by omega)
    refine br_f h0 (br_t h1 ?_)
    refine xs_ring hh (by omega) ?_
    refine And.intro (vp_in_nI (Nat.mod_lt _ (by decide)) (by decide)) ?_
    refine br_f h0 (br_t h1 (And.intro (vp_in_nI (by omega) (by decide)) ?_))
    rw [nI_clamp (by omega), nI_clamp (by omega)]
    exact ⟨hy j hj, re_in R⟩
theorem i_vc_outputWord {k : Nat} {u : SX} {v : SY} (I : i_Rel k u v) (hk : k + 4 ≤ 2051) (v1 : Int32) : wpX_outputWord (fun r => wpY_outputWord (fun r' => r' = r ∧ i_Rel (k + 4) u v) v v1) u v1 := by
  refine re_el (P := fun u v => wpX_outputWord (fun r => wpY_outputWord (fun r' => r' = r ∧ i_Rel (k + 4) u v) v v1) u v1) ?_ I
  intro sz cl ll hd p g y_fl y_scr y_inp y_outp f_size f_executedCount f_regA f_regX f_regS f_pc f_flagBits f_znPending f_znResult f_cvKind f_cvLeft f_cvRight f_cvWide f_inHead f_inSize f_outHead f_outSize f_lastCode f_lastDetail f_cacheLimit f_lengthLimit f_hand f_running f_linkFrom f_exitKind f_controlDone f_trapCode f_trapDetail a_mem a_marks a_visitCount a_inQueue a_outQueue a_blockStart a_blockCount a_blockRecent a_links a_entry a_cover a_opKind a_opMode a_opArg R
  obtain ⟨h', n, e1, e2, hh, hn, hy, hW⟩ := R.2.1.2.2.2.2.2.2
  subst e1 e2
  rcases pk_ix v1 (n := n) (by omega) with h | h | ⟨j, hj, rfl⟩
  · exact br_t h (br_t h ⟨rfl, re_in R⟩)
  · have h0 := re_nlt h (by omega)
    have h1 : ¬ v1 < nI n := Int32.not_lt.mpr h
    exact br_f h0 (br_f h1 (br_f h0 (br_f h1 ⟨rfl, re_in R⟩)))
  · have h0 : ¬ nI j < 0 := nI_pos (by omega)
    have h1 : nI j < nI n := nI_lt hj (by omega)
    refine br_f h0 (br_t h1 ?_)
    refine xs_ring hh (by omega) ?_
    refine And.intro (vp_in_nI (Nat.mod_lt _ (by decide)) (by decide)) ?_
    refine br_f h0 (br_t h1 (And.intro (vp_in_nI (by omega) (by decide)) ?_))
    rw [nI_clamp (by omega), nI_clamp (by omega)]
    exact ⟨hy j hj, re_in R⟩
end
section
/-! the owed statements: poke, registers, marks, queues, run, flush (printed by gen22.py) -/
theorem i_vc_poke {k : Nat} {u : SX} {v : SY} (I : i_Rel k u v) (hk : k + 4 ≤ 2051) (v1 : Int32) (v2 : Int32) : wpX_poke (fun r u' => wpY_poke (fun r' v' => r' = r ∧ i_Rel (k + 4) u' v') v v1 v2) u v1 v2 := by
  refine re_el (P := fun u v => wpX_poke (fun r u' => wpY_poke (fun r' v' => r' = r ∧ i_Rel (k + 4) u' v') v v1 v2) u v1 v2) ?_ I
  intro sz cl ll hd p g y_fl y_scr y_inp y_outp f_size f_executedCount f_regA f_regX f_regS f_pc f_flagBits f_znPending f_znResult f_cvKind f_cvLeft f_cvRight f_cvWide f_inHead f_inSize f_outHead f_outSize f_lastCode f_lastDetail f_cacheLimit f_lengthLimit f_hand f_running f_linkFrom f_exitKind f_controlDone f_trapCode f_trapDetail a_mem a_marks a_visitCount a_inQueue a_outQueue a_blockStart a_blockCount a_blockRecent a_links a_entry a_cover a_opKind a_opMode a_opArg R
  obtain ⟨R0, G, C⟩ := R
  have hz := R0.2.1
  rcases pk_ix v1 (n := sz) (by omega) with h | h | ⟨j, hj, rfl⟩
  · exact br_t h (br_t h ⟨rfl, re_mk R0 G C⟩)
  · have h0 := re_nlt h (by omega)
    have h1 : ¬ v1 < nI sz := Int32.not_lt.mpr h
    exact br_f h0 (br_f h1 (br_f h0 (br_f h1 ⟨rfl, re_mk R0 G C⟩)))
  · have h0 : ¬ nI j < 0 := nI_pos (by omega)
    have h1 : nI j < nI sz := nI_lt hj (by omega)
    have hi : vp_in (nI j) 256 := vp_in_nI (by omega) (by decide)
    have ec : (nI j).toNatClampNeg = j := nI_clamp (by omega)
    refine br_f h0 (br_t h1 (And.intro hi ?_))
    refine nm_r (e' := a_mem j) (by rw [ec]) ?_
    refine xd_store hz (by omega) C ?_
    intro g' run' lf' bs' bc' br' lk' en' cv' C' D'
    refine br_f h0 (br_t h1 (And.intro hi ?_))
    refine nm_r (e' := a_mem j) (by rw [ec]) ?_
    refine And.intro hi ?_
    refine nm_r (e' := upd a_mem j (v2 &&& 65535)) (by rw [ec]) ?_
    obtain ⟨wA, wX, wS, wM, hF, hI, hO⟩ := G
    exact ⟨rfl, re_mk R0 ⟨wA, wX, wS, ab_Wup wM (ab_Wand _), hF, hI, hO⟩ C'⟩
section RG
variable {f_size f_executedCount f_regA f_regX f_regS f_pc f_flagBits f_znPending f_znResult f_cvKind f_cvLeft f_cvRight f_cvWide f_inHead f_inSize f_outHead f_outSize f_lastCode f_lastDetail f_cacheLimit f_lengthLimit f_hand f_running f_linkFrom f_exitKind f_controlDone f_trapCode f_trapDetail : Int32} {a_mem a_marks a_visitCount a_inQueue a_outQueue a_blockStart a_blockCount a_blockRecent a_links a_entry a_cover a_opKind a_opMode a_opArg : Nat → Int32}
variable {y_fl : Int32} {y_scr y_inp y_outp : Nat → Int32}
theorem rg_x0 {post : Int32 → Prop} (h : post f_regA) : wpX_register post (f_size, f_executedCount, f_regA, f_regX, f_regS, f_pc, f_flagBits, f_znPending, f_znResult, f_cvKind, f_cvLeft, f_cvRight, f_cvWide, f_inHead, f_inSize, f_outHead, f_outSize, f_lastCode, f_lastDetail, f_cacheLimit, f_lengthLimit, f_hand, f_running, f_linkFrom, f_exitKind, f_controlDone, f_trapCode, f_trapDetail, a_mem, a_marks, a_visitCount, a_inQueue, a_outQueue, a_blockStart, a_blockCount, a_blockRecent, a_links, a_entry, a_cover, a_opKind, a_opMode, a_opArg) 0 := by
  iterate 2 refine br_f (by decide) ?_
  exact br_t (by decide) h
theorem rg_y0 {post : Int32 → Prop} (h : post f_regA) : wpY_register post (f_inSize, f_outSize, f_size, f_regA, f_regX, f_regS, f_pc, y_fl, f_executedCount, f_lastCode, f_lastDetail, a_mem, y_scr, a_visitCount, a_marks, y_inp, y_outp) 0 := by
  exact br_t (by decide) h
theorem rg_x1 {post : Int32 → Prop} (h : post f_regX) : wpX_register post (f_size, f_executedCount, f_regA, f_regX, f_regS, f_pc, f_flagBits, f_znPending, f_znResult, f_cvKind, f_cvLeft, f_cvRight, f_cvWide, f_inHead, f_inSize, f_outHead, f_outSize, f_lastCode, f_lastDetail, f_cacheLimit, f_lengthLimit, f_hand, f_running, f_linkFrom, f_exitKind, f_controlDone, f_trapCode, f_trapDetail, a_mem, a_marks, a_visitCount, a_inQueue, a_outQueue, a_blockStart, a_blockCount, a_blockRecent, a_links, a_entry, a_cover, a_opKind, a_opMode, a_opArg) 1 := by
  iterate 3 refine br_f (by decide) ?_
  exact br_t (by decide) h
theorem rg_y1 {post : Int32 → Prop} (h : post f_regX) : wpY_register post (f_inSize, f_outSize, f_size, f_regA, f_regX, f_regS, f_pc, y_fl, f_executedCount, f_lastCode, f_lastDetail, a_mem, y_scr, a_visitCount, a_marks, y_inp, y_outp) 1 := by
  iterate 1 refine br_f (by decide) ?_
  exact br_t (by decide) h
theorem rg_x2 {post : Int32 → Prop} (h : post f_regS) : wpX_register post (f_size, f_executedCount, f_regA, f_regX, f_regS, f_pc, f_flagBits, f_znPending, f_znResult, f_cvKind, f_cvLeft, f_cvRight, f_cvWide, f_inHead, f_inSize, f_outHead, f_outSize, f_lastCode, f_lastDetail, f_cacheLimit, f_lengthLimit, f_hand, f_running, f_linkFrom, f_exitKind, f_controlDone, f_trapCode, f_trapDetail, a_mem, a_marks, a_visitCount, a_inQueue, a_outQueue, a_blockStart, a_blockCount, a_blockRecent, a_links, a_entry, a_cover, a_opKind, a_opMode, a_opArg) 2 := by
  iterate 4 refine br_f (by decide) ?_
  exact br_t (by decide) h
theorem rg_y2 {post : Int32 → Prop} (h : post f_regS) : wpY_register post (f_inSize, f_outSize, f_size, f_regA, f_regX, f_regS, f_pc, y_fl, f_executedCount, f_lastCode, f_lastDetail, a_mem, y_scr, a_visitCount, a_marks, y_inp, y_outp) 2 := by
  iterate 2 refine br_f (by decide) ?_
  exact br_t (by decide) h
theorem rg_x3 {post : Int32 → Prop} (h : post f_pc) : wpX_register post (f_size, f_executedCount, f_regA, f_regX, f_regS, f_pc, f_flagBits, f_znPending, f_znResult, f_cvKind, f_cvLeft, f_cvRight, f_cvWide, f_inHead, f_inSize, f_outHead, f_outSize, f_lastCode, f_lastDetail, f_cacheLimit, f_lengthLimit, f_hand, f_running, f_linkFrom, f_exitKind, f_controlDone, f_trapCode, f_trapDetail, a_mem, a_marks, a_visitCount, a_inQueue, a_outQueue, a_blockStart, a_blockCount, a_blockRecent, a_links, a_entry, a_cover, a_opKind, a_opMode, a_opArg) 3 := by
  iterate 5 refine br_f (by decide) ?_
  exact br_t (by decide) h
theorem rg_y3 {post : Int32 → Prop} (h : post f_pc) : wpY_register post (f_inSize, f_outSize, f_size, f_regA, f_regX, f_regS, f_pc, y_fl, f_executedCount, f_lastCode, f_lastDetail, a_mem, y_scr, a_visitCount, a_marks, y_inp, y_outp) 3 := by
  iterate 3 refine br_f (by decide) ?_
  exact br_t (by decide) h
theorem rg_x4 {post : Int32 → Prop} (h : post (fg_F f_flagBits f_znPending f_znResult f_cvKind f_cvLeft f_cvRight f_cvWide)) : wpX_register post (f_size, f_executedCount, f_regA, f_regX, f_regS, f_pc, f_flagBits, f_znPending, f_znResult, f_cvKind, f_cvLeft, f_cvRight, f_cvWide, f_inHead, f_inSize, f_outHead, f_outSize, f_lastCode, f_lastDetail, f_cacheLimit, f_lengthLimit, f_hand, f_running, f_linkFrom, f_exitKind, f_controlDone, f_trapCode, f_trapDetail, a_mem, a_marks, a_visitCount, a_inQueue, a_outQueue, a_blockStart, a_blockCount, a_blockRecent, a_links, a_entry, a_cover, a_opKind, a_opMode, a_opArg) 4 := by
  iterate 6 refine br_f (by decide) ?_
  refine br_t (by decide) ?_
  refine xs_currentFlags ?_
  exact h
theorem rg_y4 {post : Int32 → Prop} (h : post y_fl) : wpY_register post (f_inSize, f_outSize, f_size, f_regA, f_regX, f_regS, f_pc, y_fl, f_executedCount, f_lastCode, f_lastDetail, a_mem, y_scr, a_visitCount, a_marks, y_inp, y_outp) 4 := by
  iterate 4 refine br_f (by decide) ?_
  exact br_t (by decide) h
theorem rg_xo {post : Int32 → Prop} {v : Int32} (hv : v < 0 ∨ nI 5 ≤ v) (h : post (-1)) : wpX_register post (f_size, f_executedCount, f_regA, f_regX, f_regS, f_pc, f_flagBits, f_znPending, f_znResult, f_cvKind, f_cvLeft, f_cvRight, f_cvWide, f_inHead, f_inSize, f_outHead, f_outSize, f_lastCode, f_lastDetail, f_cacheLimit, f_lengthLimit, f_hand, f_running, f_linkFrom, f_exitKind, f_controlDone, f_trapCode, f_trapDetail, a_mem, a_marks, a_visitCount, a_inQueue, a_outQueue, a_blockStart, a_blockCount, a_blockRecent, a_links, a_entry, a_cover, a_opKind, a_opMode, a_opArg) v := by
  refine br_c (fun _ => h) (fun q => ?_)
  refine br_t ?_ h
  exact Int32.lt_of_lt_of_le (by decide) (hv.resolve_left q)
theorem rg_ne {v : Int32} (hv : v < 0 ∨ nI 5 ≤ v) : ∀ j : Nat, j < 5 → ¬ v = nI j := by
  intro j hj e
  subst e
  rcases hv with h | h
  · exact nI_pos (by omega) h
  · exact nI_ge hj (by omega) h
theorem rg_yo {post : Int32 → Prop} {v : Int32} (hv : v < 0 ∨ nI 5 ≤ v) (h : post (-1)) : wpY_register post (f_inSize, f_outSize, f_size, f_regA, f_regX, f_regS, f_pc, y_fl, f_executedCount, f_lastCode, f_lastDetail, a_mem, y_scr, a_visitCount, a_marks, y_inp, y_outp) v := by
  have q := rg_ne hv
  exact br_f (q 0 (by decide)) (br_f (q 1 (by decide)) (br_f (q 2 (by decide)) (br_f (q 3 (by decide)) (br_f (q 4 (by decide)) h))))
theorem rg_cs {v : Int32} : (v < 0 ∨ nI 5 ≤ v) ∨ v = 0 ∨ v = 1 ∨ v = 2 ∨ v = 3 ∨ v = 4 := by
  rcases pk_ix v (n := 5) (by omega) with h | h | ⟨j, hj, rfl⟩
  · exact Or.inl (Or.inl h)
  · exact Or.inl (Or.inr h)
  · have : j = 0 ∨ j = 1 ∨ j = 2 ∨ j = 3 ∨ j = 4 := by omega
    rcases this with rfl | rfl | rfl | rfl | rfl
    · exact Or.inr (Or.inl rfl)
    · exact Or.inr (Or.inr (Or.inl rfl))
    · exact Or.inr (Or.inr (Or.inr (Or.inl rfl)))
    · exact Or.inr (Or.inr (Or.inr (Or.inr (Or.inl rfl))))
    · exact Or.inr (Or.inr (Or.inr (Or.inr (Or.inr rfl))))
end RG
theorem i_vc_register {k : Nat} {u : SX} {v : SY} (I : i_Rel k u v) (hk : k + 4 ≤ 2051) (v1 : Int32) : wpX_register (fun r => wpY_register (fun r' => r' = r ∧ i_Rel (k + 4) u v) v v1) u v1 := by
  refine re_el (P := fun u v => wpX_register (fun r => wpY_register (fun r' => r' = r ∧ i_Rel (k + 4) u v) v v1) u v1) ?_ I
  intro sz cl ll hd p g y_fl y_scr y_inp y_outp f_size f_executedCount f_regA f_regX f_regS f_pc f_flagBits f_znPending f_znResult f_cvKind f_cvLeft f_cvRight f_cvWide f_inHead f_inSize f_outHead f_outSize f_lastCode f_lastDetail f_cacheLimit f_lengthLimit f_hand f_running f_linkFrom f_exitKind f_controlDone f_trapCode f_trapDetail a_mem a_marks a_visitCount a_inQueue a_outQueue a_blockStart a_blockCount a_blockRecent a_links a_entry a_cover a_opKind a_opMode a_opArg R
  rcases rg_cs (v := v1) with h | rfl | rfl | rfl | rfl | rfl
  · exact rg_xo h (rg_yo h ⟨rfl, re_in R⟩)
  · exact rg_x0 (rg_y0 ⟨rfl, re_in R⟩)
  · exact rg_x1 (rg_y1 ⟨rfl, re_in R⟩)
  · exact rg_x2 (rg_y2 ⟨rfl, re_in R⟩)
  · exact rg_x3 (rg_y3 ⟨rfl, re_in R⟩)
  · exact rg_x4 (rg_y4 ⟨R.2.1.2.2.2.2.1, re_in R⟩)
theorem i_vc_setRegister {k : Nat} {u : SX} {v : SY} (I : i_Rel k u v) (hk : k + 4 ≤ 2051) (v1 : Int32) (v2 : Int32) : wpX_setRegister (fun r u' => wpY_setRegister (fun r' v' => r' = r ∧ i_Rel (k + 4) u' v') v v1 v2) u v1 v2 := by
  refine re_el (P := fun u v => wpX_setRegister (fun r u' => wpY_setRegister (fun r' v' => r' = r ∧ i_Rel (k + 4) u' v') v v1 v2) u v1 v2) ?_ I
  intro sz cl ll hd p g y_fl y_scr y_inp y_outp f_size f_executedCount f_regA f_regX f_regS f_pc f_flagBits f_znPending f_znResult f_cvKind f_cvLeft f_cvRight f_cvWide f_inHead f_inSize f_outHead f_outSize f_lastCode f_lastDetail f_cacheLimit f_lengthLimit f_hand f_running f_linkFrom f_exitKind f_controlDone f_trapCode f_trapDetail a_mem a_marks a_visitCount a_inQueue a_outQueue a_blockStart a_blockCount a_blockRecent a_links a_entry a_cover a_opKind a_opMode a_opArg R
  obtain ⟨R0, G, C⟩ := R
  have G' := G
  obtain ⟨wA, wX, wS, wM, hF, hI, hO⟩ := G'
  rcases rg_cs (v := v1) with h | rfl | rfl | rfl | rfl | rfl
  · have q := rg_ne h
    have W : wpY_setRegister (fun r' v' => r' = -1 ∧ i_Rel (k + 4) (nI sz, f_executedCount, f_regA, f_regX, f_regS, nI p, f_flagBits, f_znPending, f_znResult, f_cvKind, f_cvLeft, f_cvRight, f_cvWide, f_inHead, f_inSize, f_outHead, f_outSize, f_lastCode, f_lastDetail, nI cl, nI ll, nI hd, f_running, f_linkFrom, f_exitKind, f_controlDone, f_trapCode, f_trapDetail, a_mem, a_marks, a_visitCount, a_inQueue, a_outQueue, a_blockStart, a_blockCount, a_blockRecent, a_links, a_entry, a_cover, a_opKind, a_opMode, a_opArg) v') (f_inSize, f_outSize, nI sz, f_regA, f_regX, f_regS, nI p, y_fl, f_executedCount, f_lastCode, f_lastDetail, a_mem, y_scr, a_visitCount, a_marks, y_inp, y_outp) v1 v2 := by
      unfold wpY_setRegister
      refine rg_yo h ?_
      refine br_f (q 0 (by decide)) ?_
      refine br_f (q 1 (by decide)) ?_
      refine br_f (q 2 (by decide)) ?_
      refine br_f (q 3 (by decide)) ?_
      refine br_f (q 4 (by decide)) ?_
      exact ⟨rfl, re_mk R0 G C⟩
    refine br_c (fun _ => W) (fun h0 => ?_)
    refine br_f ?_ W
    have h5 := h.resolve_left h0
    intro h6
    exact absurd (Int32.le_trans h5 h6) (by decide)
  · refine br_f (by decide) (br_t (by decide) ?_)
    refine rg_x0 ?_
    refine nm_e ?_
    iterate 2 refine br_f (by decide) ?_
    refine br_t (by decide) ?_
    unfold wpY_setRegister
    refine rg_y0 ?_
    refine br_t (by decide) (nm_e ?_)
    iterate 4 refine br_f (by decide) ?_
    exact ⟨rfl, re_mk R0 ⟨ab_Wand _, wX, wS, wM, hF, hI, hO⟩ C⟩
  · refine br_f (by decide) (br_t (by decide) ?_)
    refine rg_x1 ?_
    refine nm_e ?_
    iterate 3 refine br_f (by decide) ?_
    refine br_t (by decide) ?_
    unfold wpY_setRegister
    refine rg_y1 ?_
    iterate 1 refine br_f (by decide) ?_
    refine br_t (by decide) (nm_e ?_)
    iterate 3 refine br_f (by decide) ?_
    exact ⟨rfl, re_mk R0 ⟨wA, ab_Wand _, wS, wM, hF, hI, hO⟩ C⟩
  · refine br_f (by decide) (br_t (by decide) ?_)
    refine rg_x2 ?_
    refine nm_e ?_
    iterate 4 refine br_f (by decide) ?_
    refine br_t (by decide) ?_
    unfold wpY_setRegister
    refine rg_y2 ?_
    iterate 2 refine br_f (by decide) ?_
    refine br_t (by decide) (nm_e ?_)
    iterate 2 refine br_f (by decide) ?_
    exact ⟨rfl, re_mk R0 ⟨wA, wX, ab_Wand _, wM, hF, hI, hO⟩ C⟩
  · refine br_f (by decide) (br_t (by decide) ?_)
    refine rg_x3 ?_
    refine nm_e ?_
    iterate 5 refine br_f (by decide) ?_
    refine br_t (by decide) ?_
    unfold wpY_setRegister
    refine rg_y3 ?_
    iterate 3 refine br_f (by decide) ?_
    refine br_t (by decide) (nm_e ?_)
    iterate 1 refine br_f (by decide) ?_
    obtain ⟨q, hq, eq⟩ := ab_Wand v2
    rw [eq]
    exact ⟨rfl, re_mk ⟨R0.1, R0.2.1, R0.2.2.1, R0.2.2.2.1, R0.2.2.2.2.1, R0.2.2.2.2.2.1, R0.2.2.2.2.2.2.1, hq⟩ G C⟩
  · refine br_f (by decide) (br_t (by decide) ?_)
    refine rg_x4 ?_
    refine nm_e ?_
    refine br_f (by decide) ?_
    refine br_t (by decide) ?_
    refine xs_loadFlags ?_
    unfold wpY_setRegister
    refine rg_y4 ?_
    iterate 4 refine br_f (by decide) ?_
    refine br_t (by decide) (nm_e ?_)
    have e : v2 &&& 65535 &&& 15 = v2 &&& 15 := by
      rw [Int32.and_assoc]
      rfl
    rw [e]
    exact ⟨hF, re_mk R0 ⟨wA, wX, wS, wM, fg_ld.symm, hI, hO⟩ C⟩
theorem i_vc_setBreakpoint {k : Nat} {u : SX} {v : SY} (I : i_Rel k u v) (hk : k + 4 ≤ 2051) (v1 : Int32) (v2 : Int32) : wpX_setBreakpoint (fun r u' => wpY_setBreakpoint (fun r' v' => r' = r ∧ i_Rel (k + 4) u' v') v v1 (lw_bz v2)) u v1 (lw_bz v2) := by
  refine re_el (P := fun u v => wpX_setBreakpoint (fun r u' => wpY_setBreakpoint (fun r' v' => r' = r ∧ i_Rel (k + 4) u' v') v v1 (lw_bz v2)) u v1 (lw_bz v2)) ?_ I
  intro sz cl ll hd p g y_fl y_scr y_inp y_outp f_size f_executedCount f_regA f_regX f_regS f_pc f_flagBits f_znPending f_znResult f_cvKind f_cvLeft f_cvRight f_cvWide f_inHead f_inSize f_outHead f_outSize f_lastCode f_lastDetail f_cacheLimit f_lengthLimit f_hand f_running f_linkFrom f_exitKind f_controlDone f_trapCode f_trapDetail a_mem a_marks a_visitCount a_inQueue a_outQueue a_blockStart a_blockCount a_blockRecent a_links a_entry a_cover a_opKind a_opMode a_opArg R
  obtain ⟨R0, G, C⟩ := R
  have hz := R0.2.1
  rcases pk_ix v1 (n := sz) (by omega) with h | h | ⟨j, hj, rfl⟩
  · exact br_t h (br_t h ⟨rfl, re_mk R0 G C⟩)
  · have h0 := re_nlt h (by omega)
    have h1 : ¬ v1 < nI sz := Int32.not_lt.mpr h
    exact br_f h0 (br_f h1 (br_f h0 (br_f h1 ⟨rfl, re_mk R0 G C⟩)))
  · have h0 : ¬ nI j < 0 := nI_pos (by omega)
    have h1 : nI j < nI sz := nI_lt hj (by omega)
    have hi : vp_in (nI j) 256 := vp_in_nI (by omega) (by decide)
    have ec : (nI j).toNatClampNeg = j := nI_clamp (by omega)
    have Y : ∀ (g' : Nat → Option (Nat × Nat)) (run' lf' : Int32) (bs' bc' br' lk' en' cv' : Nat → Int32) (z : Int32), z = vp_nar .boolean (lw_bz v2) → ca_CI sz g' a_mem (upd a_marks j z) bs' bc' lk' en' cv' a_opKind a_opMode a_opArg →
        wpY_setBreakpoint (fun r' v' => r' = 1 ∧ i_Rel (k + 4) (nI sz, f_executedCount, f_regA, f_regX, f_regS, nI p, f_flagBits, f_znPending, f_znResult, f_cvKind, f_cvLeft, f_cvRight, f_cvWide, f_inHead, f_inSize, f_outHead, f_outSize, f_lastCode, f_lastDetail, nI cl, nI ll, nI hd, run', lf', f_exitKind, f_controlDone, f_trapCode, f_trapDetail, a_mem, upd a_marks j z, a_visitCount, a_inQueue, a_outQueue, bs', bc', br', lk', en', cv', a_opKind, a_opMode, a_opArg) v') (f_inSize, f_outSize, nI sz, f_regA, f_regX, f_regS, nI p, y_fl, f_executedCount, f_lastCode, f_lastDetail, a_mem, y_scr, a_visitCount, a_marks, y_inp, y_outp) (nI j) (lw_bz v2) := by
      intro g' run' lf' bs' bc' br' lk' en' cv' z hz' C'
      refine br_f h0 (br_t h1 (And.intro hi ?_))
      refine nm_r (e' := upd a_marks j z) (by rw [ec, hz']) ?_
      exact ⟨rfl, re_mk R0 G C'⟩
    refine br_f h0 (br_t h1 ?_)
    refine br_c (fun e => ?_) (fun e => ?_)
    · refine And.intro hi (nm_r (e' := upd a_marks j (vp_nar .boolean (lw_bz v2))) (by rw [ec]) ?_)
      exact Y g f_running f_linkFrom _ _ a_blockRecent _ _ _ _ rfl (ca_Lmk C (Or.inl (by rw [e]; exact ab_vb0)))
    · refine And.intro hi ?_
      refine br_c (fun e2 => ?_) (fun e2 => ?_)
      · refine xd_covering hz (by omega) C ?_
        intro g' run' lf' bs' bc' br' lk' en' cv' C' N D
        refine And.intro hi (nm_r (e' := upd a_marks j (vp_nar .boolean (lw_bz v2))) (by rw [ec]) ?_)
        exact Y g' run' lf' bs' bc' br' lk' en' cv' _ rfl (ca_Lmk C' (Or.inr (Or.inr N)))
      · rw [ec] at e2
        refine And.intro hi (nm_r (e' := upd a_marks j (vp_nar .boolean (lw_bz v2))) (by rw [ec]) ?_)
        exact Y g f_running f_linkFrom _ _ a_blockRecent _ _ _ _ rfl (ca_Lmk C (Or.inr (Or.inl e2)))
theorem i_vc_feed {k : Nat} {u : SX} {v : SY} (I : i_Rel k u v) (hk : k + 4 ≤ 2051) (v1 : Int32) : wpX_feed (fun r u' => wpY_feed (fun r' v' => r' = r ∧ i_Rel (k + 4) u' v') v v1) u v1 := by
  refine re_el (P := fun u v => wpX_feed (fun r u' => wpY_feed (fun r' v' => r' = r ∧ i_Rel (k + 4) u' v') v v1) u v1) ?_ I
  intro sz cl ll hd p g y_fl y_scr y_inp y_outp f_size f_executedCount f_regA f_regX f_regS f_pc f_flagBits f_znPending f_znResult f_cvKind f_cvLeft f_cvRight f_cvWide f_inHead f_inSize f_outHead f_outSize f_lastCode f_lastDetail f_cacheLimit f_lengthLimit f_hand f_running f_linkFrom f_exitKind f_controlDone f_trapCode f_trapDetail a_mem a_marks a_visitCount a_inQueue a_outQueue a_blockStart a_blockCount a_blockRecent a_links a_entry a_cover a_opKind a_opMode a_opArg R
  obtain ⟨R0, G, C⟩ := R
  obtain ⟨wA, wX, wS, wM, hF, hI, hO⟩ := G
  have hI' := hI
  obtain ⟨h', n, e1, e2, hh, hn, hy, hW⟩ := hI'
  subst e1 e2
  by_cases h : n < 16
  · have h1 : nI n < 16 := nI_lt (b := 16) h (by decide)
    refine br_t h1 ?_
    refine xs_ring hh (by omega) ?_
    refine And.intro (vp_in_nI (Nat.mod_lt _ (by decide)) (by decide)) ?_
    refine nm_r (e' := upd a_inQueue ((h' + n) % 16) (v1 &&& 65535)) (by rw [nI_clamp (by omega)]) ?_
    refine nm_r (e' := nI (n + 1)) (nI_1 n) ?_
    refine br_t h1 ?_
    refine And.intro (vp_in_nI h (by decide)) ?_
    refine nm_r (e' := upd y_inp n (v1 &&& 65535)) (by rw [nI_clamp (by omega)]) ?_
    refine nm_r (e' := nI (n + 1)) (nI_1 n) ?_
    exact ⟨rfl, re_mk R0 ⟨wA, wX, wS, wM, hF, qu_push hh h hy hW (ab_Wand _), hO⟩ C⟩
  · have h1 : ¬ nI n < 16 := nI_nlt (b := 16) (by omega) (by omega)
    exact br_f h1 (br_f h1 ⟨rfl, re_mk R0 ⟨wA, wX, wS, wM, hF, hI, hO⟩ C⟩)
section TO
variable {f_inSize f_outSize f_size f_regA f_regX f_regS f_pc y_fl f_executedCount f_lastCode f_lastDetail : Int32} {a_mem y_scr a_visitCount a_marks y_inp y_outp : Nat → Int32}
theorem to_18 {post : Int32 → SY → Prop} {x1 : Int32} {c : Nat} (h0 : 0 < c) : ∀ d i, i + d = 16 → 1 ≤ i → ∀ n, d < n → ∀ q : Nat → Int32,
    (∀ q' : Nat → Int32, (∀ j, j < 15 → q' j = if i ≤ j + 1 then q (j + 1) else q j) → post x1 (f_inSize, nI (c - 1), f_size, f_regA, f_regX, f_regS, f_pc, y_fl, f_executedCount, f_lastCode, f_lastDetail, a_mem, y_scr, a_visitCount, a_marks, y_inp, q')) →
    wY_takeOutput_18 post x1 f_inSize (nI c) f_size f_regA f_regX f_regS f_pc y_fl f_executedCount f_lastCode f_lastDetail n (nI i) a_mem y_scr a_visitCount a_marks y_inp q := by
  intro d
  induction d with
  | zero =>
    intro i hi h1 n hn q K
    obtain ⟨n, rfl⟩ : ∃ m, n = m + 1 := ⟨n - 1, by omega⟩
    refine br_t (nI_le (a := 16) (by omega) (by omega)) ?_
    refine nm_r (e' := nI (c - 1)) (pk_sub (b := 1) h0) ?_
    refine K q ?_
    intro j hj
    rw [if_neg (by omega)]
  | succ d ih =>
    intro i hi h1 n hn q K
    obtain ⟨n, rfl⟩ : ∃ m, n = m + 1 := ⟨n - 1, by omega⟩
    have e1 : nI i - 1 = nI (i - 1) := pk_sub (b := 1) h1
    refine br_f (nI_ge (b := 16) (by omega) (by decide)) ?_
    refine And.intro (vp_in_nI (by omega) (by decide)) ?_
    refine And.intro (by rw [e1]; exact vp_in_nI (by omega) (by decide)) ?_
    refine nm_r (e' := upd q (i - 1) (q i)) (by rw [e1, nI_clamp (by omega), nI_clamp (by omega)]) ?_
    refine nm_r (e' := nI (i + 1)) (nI_1 i) ?_
    refine ih (i + 1) (by omega) (by omega) n (by omega) _ ?_
    intro q' hq
    refine K q' ?_
    intro j hj
    rw [hq j hj]
    by_cases e : j = i - 1
    · subst e
      rw [if_neg (by omega), pk_us, if_pos (by omega)]
      exact congrArg q (by omega)
    · by_cases e2 : i + 1 ≤ j + 1
      · rw [if_pos e2, if_pos (by omega), pk_un (by omega)]
      · rw [if_neg e2, if_neg (by omega), pk_un (by omega)]
end TO
theorem i_vc_takeOutput {k : Nat} {u : SX} {v : SY} (I : i_Rel k u v) (hk : k + 4 ≤ 2051) : wpX_takeOutput (fun r u' => wpY_takeOutput (fun r' v' => r' = r ∧ i_Rel (k + 4) u' v') v) u := by
  refine re_el (P := fun u v => wpX_takeOutput (fun r u' => wpY_takeOutput (fun r' v' => r' = r ∧ i_Rel (k + 4) u' v') v) u) ?_ I
  intro sz cl ll hd p g y_fl y_scr y_inp y_outp f_size f_executedCount f_regA f_regX f_regS f_pc f_flagBits f_znPending f_znResult f_cvKind f_cvLeft f_cvRight f_cvWide f_inHead f_inSize f_outHead f_outSize f_lastCode f_lastDetail f_cacheLimit f_lengthLimit f_hand f_running f_linkFrom f_exitKind f_controlDone f_trapCode f_trapDetail a_mem a_marks a_visitCount a_inQueue a_outQueue a_blockStart a_blockCount a_blockRecent a_links a_entry a_cover a_opKind a_opMode a_opArg R
  obtain ⟨R0, G, C⟩ := R
  obtain ⟨wA, wX, wS, wM, hF, hI, hO⟩ := G
  have hO' := hO
  obtain ⟨h', n, e1, e2, hh, hn, hy, hW⟩ := hO'
  subst e1 e2
  by_cases h : n = 0
  · subst h
    exact br_t rfl (br_t rfl ⟨rfl, re_mk R0 ⟨wA, wX, wS, wM, hF, hI, hO⟩ C⟩)
  · have h1 : ¬ nI n = 0 := nI_ne0 (by omega) (by omega)
    refine br_f h1 ?_
    refine And.intro (vp_in_nI hh (by decide)) ?_
    refine nm_r (e' := a_outQueue h') (by rw [nI_clamp (by omega)]) ?_
    refine xs_ring (o := 1) hh (by decide) ?_
    refine nm_r (e' := nI (n - 1)) (pk_sub (b := 1) (by omega)) ?_
    refine br_f h1 ?_
    refine nm_r (e' := a_outQueue h') (by rw [hy 0 (by omega)]; exact congrArg a_outQueue (by omega)) ?_
    refine ⟨17, ?_⟩
    refine to_18 (by omega) 15 1 (by omega) (by omega) 17 (by omega) y_outp ?_
    intro q' hq
    refine ⟨rfl, re_mk R0 ⟨wA, wX, wS, wM, hF, hI, qu_pop hh (by omega) hn hy hW ?_⟩ C⟩
    intro j hj
    rw [hq j hj, if_pos (by omega)]
theorem i_vc_run {k : Nat} {u : SX} {v : SY} (I : i_Rel k u v) (hk : k + 4 ≤ 2051) (v1 : Int32) : wpX_run (fun r u' => wpY_run (fun r' v' => r' = r ∧ i_Rel (k + 4) u' v') v v1) u v1 := by
  refine re_el (P := fun u v => wpX_run (fun r u' => wpY_run (fun r' v' => r' = r ∧ i_Rel (k + 4) u' v') v v1) u v1) ?_ I
  intro sz cl ll hd p g y_fl y_scr y_inp y_outp f_size f_executedCount f_regA f_regX f_regS f_pc f_flagBits f_znPending f_znResult f_cvKind f_cvLeft f_cvRight f_cvWide f_inHead f_inSize f_outHead f_outSize f_lastCode f_lastDetail f_cacheLimit f_lengthLimit f_hand f_running f_linkFrom f_exitKind f_controlDone f_trapCode f_trapDetail a_mem a_marks a_visitCount a_inQueue a_outQueue a_blockStart a_blockCount a_blockRecent a_links a_entry a_cover a_opKind a_opMode a_opArg R
  have R' := R
  obtain ⟨⟨z1, z2, z3, z4, z5, z6, z7, z8⟩, G, C⟩ := R'
  rcases pk_ix v1 (n := 401) (by omega) with h | h | ⟨j, hj, rfl⟩
  · have h1 : v1 < 1 := Int32.lt_of_lt_of_le h (by decide)
    exact br_t h1 (br_t h1 ⟨rfl, re_in R⟩)
  · have h1 : ¬ v1 < 1 := fun q => absurd (Int32.lt_of_le_of_lt h q) (by decide)
    have h2 : ¬ v1 ≤ 400 := fun q => absurd (Int32.le_trans h q) (by decide)
    exact br_f h1 (br_f h2 (br_f h1 (br_f h2 ⟨rfl, re_in R⟩)))
  · by_cases hj0 : j = 0
    · subst hj0
      exact br_t (by decide) (br_t (by decide) ⟨rfl, re_in R⟩)
    · have h1 : ¬ nI j < 1 := nI_nlt (b := 1) (by omega) (by omega)
      have h2 : nI j ≤ 400 := nI_le (b := 400) (by omega) (by decide)
      refine br_f h1 (br_t h2 ?_)
      refine ⟨j + 2, ?_⟩
      refine rd_13 (YS := fun pY => wY_runUntilStop_2 pY (nI j) 0 (j - 0 + 1) (nI 0) f_inSize f_outSize (nI sz) f_regA f_regX f_regS (nI p) y_fl f_executedCount f_lastCode f_lastDetail a_mem y_scr a_visitCount a_marks y_inp y_outp) (fuel := j) (y_scr := y_scr) z1 z2 z5 z6 z3 z4 (by omega) ?_ j j (Nat.le_refl j) 0 (j + 2) 0 hd p y_fl f_executedCount f_regA f_regX f_regS f_flagBits f_znPending f_znResult f_cvKind f_cvLeft f_cvRight f_cvWide f_inHead f_inSize f_outHead f_outSize f_lastDetail f_running (-1) f_exitKind f_controlDone f_trapCode f_trapDetail y_inp y_outp a_mem a_visitCount a_inQueue a_outQueue a_blockStart a_blockCount a_blockRecent a_links a_entry a_cover a_opKind a_opMode a_opArg g (by omega) (by omega) (by omega) (by omega) z7 z8 G C (Or.inl rfl) (fun pY h => h)
      intro hd' p' code detail fl' ex' A' X' S' fb' zp' zr' ck' cl' cr' cw' ih' is' oh' os' ld' run' lf' ek' cd' tc' td' inp' outp' mem' vc' iq' oq' bs' bc' br' lk' en' cv' oK' oM' oA' g' hh' hp' G' C' hYS
      refine br_f h1 (br_t h2 ?_)
      refine ⟨j + 1, ?_⟩
      refine hYS _ ?_
      exact ⟨rfl, re_mk ⟨z1, z2, z3, z4, z5, z6, hh', hp'⟩ G' C'⟩
theorem i_vc_runToBranch {k : Nat} {u : SX} {v : SY} (I : i_Rel k u v) (hk : k + 4 ≤ 2051) (v1 : Int32) : wpX_runToBranch (fun r u' => wpY_runToBranch (fun r' v' => r' = r ∧ i_Rel (k + 4) u' v') v v1) u v1 := by
  refine re_el (P := fun u v => wpX_runToBranch (fun r u' => wpY_runToBranch (fun r' v' => r' = r ∧ i_Rel (k + 4) u' v') v v1) u v1) ?_ I
  intro sz cl ll hd p g y_fl y_scr y_inp y_outp f_size f_executedCount f_regA f_regX f_regS f_pc f_flagBits f_znPending f_znResult f_cvKind f_cvLeft f_cvRight f_cvWide f_inHead f_inSize f_outHead f_outSize f_lastCode f_lastDetail f_cacheLimit f_lengthLimit f_hand f_running f_linkFrom f_exitKind f_controlDone f_trapCode f_trapDetail a_mem a_marks a_visitCount a_inQueue a_outQueue a_blockStart a_blockCount a_blockRecent a_links a_entry a_cover a_opKind a_opMode a_opArg R
  have R' := R
  obtain ⟨⟨z1, z2, z3, z4, z5, z6, z7, z8⟩, G, C⟩ := R'
  rcases pk_ix v1 (n := 401) (by omega) with h | h | ⟨j, hj, rfl⟩
  · have h1 : v1 < 1 := Int32.lt_of_lt_of_le h (by decide)
    exact br_t h1 (br_t h1 ⟨rfl, re_in R⟩)
  · have h1 : ¬ v1 < 1 := fun q => absurd (Int32.lt_of_le_of_lt h q) (by decide)
    have h2 : ¬ v1 ≤ 400 := fun q => absurd (Int32.le_trans h q) (by decide)
    exact br_f h1 (br_f h2 (br_f h1 (br_f h2 ⟨rfl, re_in R⟩)))
  · by_cases hj0 : j = 0
    · subst hj0
      exact br_t (by decide) (br_t (by decide) ⟨rfl, re_in R⟩)
    · have h1 : ¬ nI j < 1 := nI_nlt (b := 1) (by omega) (by omega)
      have h2 : nI j ≤ 400 := nI_le (b := 400) (by omega) (by decide)
      refine br_f h1 (br_t h2 ?_)
      refine ⟨j + 2, ?_⟩
      refine rd_13 (YS := fun pY => wY_runUntilStop_2 pY (nI j) 1 (j - 0 + 1) (nI 0) f_inSize f_outSize (nI sz) f_regA f_regX f_regS (nI p) y_fl f_executedCount f_lastCode f_lastDetail a_mem y_scr a_visitCount a_marks y_inp y_outp) (fuel := j) (y_scr := y_scr) z1 z2 z5 z6 z3 z4 (by omega) ?_ j j (Nat.le_refl j) 0 (j + 2) 0 hd p y_fl f_executedCount f_regA f_regX f_regS f_flagBits f_znPending f_znResult f_cvKind f_cvLeft f_cvRight f_cvWide f_inHead f_inSize f_outHead f_outSize f_lastDetail f_running (-1) f_exitKind f_controlDone f_trapCode f_trapDetail y_inp y_outp a_mem a_visitCount a_inQueue a_outQueue a_blockStart a_blockCount a_blockRecent a_links a_entry a_cover a_opKind a_opMode a_opArg g (by omega) (by omega) (by omega) (by omega) z7 z8 G C (Or.inl rfl) (fun pY h => h)
      intro hd' p' code detail fl' ex' A' X' S' fb' zp' zr' ck' cl' cr' cw' ih' is' oh' os' ld' run' lf' ek' cd' tc' td' inp' outp' mem' vc' iq' oq' bs' bc' br' lk' en' cv' oK' oM' oA' g' hh' hp' G' C' hYS
      refine br_f h1 (br_t h2 ?_)
      refine ⟨j + 1, ?_⟩
      refine hYS _ ?_
      exact ⟨rfl, re_mk ⟨z1, z2, z3, z4, z5, z6, hh', hp'⟩ G' C'⟩
section FL
variable {f_size f_executedCount f_regA f_regX f_regS f_pc f_flagBits f_znPending f_znResult f_cvKind f_cvLeft f_cvRight f_cvWide f_inHead f_inSize f_outHead f_outSize f_lastCode f_lastDetail f_cacheLimit f_lengthLimit f_hand f_running f_linkFrom f_exitKind f_controlDone f_trapCode f_trapDetail : Int32} {a_mem a_marks a_visitCount a_inQueue a_outQueue a_blockStart a_blockCount a_blockRecent a_links a_entry a_cover a_opKind a_opMode a_opArg : Nat → Int32}
theorem fl_2 {post : SX → Prop} {sz : Nat} {mem mk : Nat → Int32} (hz : sz ≤ 256) : ∀ d s, s + d = 8 → ∀ n, d < n → ∀ (g : Nat → Option (Nat × Nat)) (run lf : Int32) (bs bc br lk en cv : Nat → Int32),
    ca_CI sz g mem mk bs bc lk en cv a_opKind a_opMode a_opArg →
    (∀ (g' : Nat → Option (Nat × Nat)) (run' lf' : Int32) (bs' bc' br' lk' en' cv' : Nat → Int32), ca_CI sz g' mem mk bs' bc' lk' en' cv' a_opKind a_opMode a_opArg →
      post (f_size, f_executedCount, f_regA, f_regX, f_regS, f_pc, f_flagBits, f_znPending, f_znResult, f_cvKind, f_cvLeft, f_cvRight, f_cvWide, f_inHead, f_inSize, f_outHead, f_outSize, f_lastCode, f_lastDetail, f_cacheLimit, f_lengthLimit, f_hand, run', lf', f_exitKind, f_controlDone, f_trapCode, f_trapDetail, a_mem, a_marks, a_visitCount, a_inQueue, a_outQueue, bs', bc', br', lk', en', cv', a_opKind, a_opMode, a_opArg)) →
    wX_flush_2 post n (nI s) f_size f_executedCount f_regA f_regX f_regS f_pc f_flagBits f_znPending f_znResult f_cvKind f_cvLeft f_cvRight f_cvWide f_inHead f_inSize f_outHead f_outSize f_lastCode f_lastDetail f_cacheLimit f_lengthLimit f_hand run lf f_exitKind f_controlDone f_trapCode f_trapDetail a_mem a_marks a_visitCount a_inQueue a_outQueue bs bc br lk en cv a_opKind a_opMode a_opArg := by
  intro d
  induction d with
  | zero =>
    intro s hs n hn g run lf bs bc br lk en cv C K
    obtain ⟨n, rfl⟩ : ∃ m, n = m + 1 := ⟨n - 1, by omega⟩
    refine br_t (nI_le (a := 8) (by omega) (by omega)) ?_
    exact K g run lf bs bc br lk en cv C
  | succ d ih =>
    intro s hs n hn g run lf bs bc br lk en cv C K
    obtain ⟨n, rfl⟩ : ∃ m, n = m + 1 := ⟨n - 1, by omega⟩
    have ec : (nI s).toNatClampNeg = s := nI_clamp (by omega)
    refine br_f (nI_ge (b := 8) (by omega) (by decide)) ?_
    refine And.intro (vp_in_nI (by omega) (by decide)) ?_
    cases hg : g s with
    | none =>
      refine br_t (by rw [ec, ca_none C (by omega) hg]; decide) ?_
      refine nm_r (e' := nI (s + 1)) (nI_1 s) ?_
      exact ih (s + 1) (by omega) n (by omega) g run lf bs bc br lk en cv C K
    | some q =>
      obtain ⟨st, ct⟩ := q
      have B := ca_some C (by omega) hg
      refine br_f (by rw [ec, B.1]; exact nI_pos (by have := B.2.2.2.2.1; omega)) ?_
      refine xd_drop hz C (by omega) hg ?_
      intro bs' bc' br' lk' en' cv' C' _
      refine nm_r (e' := nI (s + 1)) (nI_1 s) ?_
      exact ih (s + 1) (by omega) n (by omega) (ca_del g s) _ _ bs' bc' br' lk' en' cv' C' K
end FL
theorem i_vc_flush {k : Nat} {u : SX} {v : SY} (I : i_Rel k u v) (hk : k + 4 ≤ 2051) : wpX_flush (fun u' => wpY_flush (fun v' => i_Rel (k + 4) u' v') v) u := by
  refine re_el (P := fun u v => wpX_flush (fun u' => wpY_flush (fun v' => i_Rel (k + 4) u' v') v) u) ?_ I
  intro sz cl ll hd p g y_fl y_scr y_inp y_outp f_size f_executedCount f_regA f_regX f_regS f_pc f_flagBits f_znPending f_znResult f_cvKind f_cvLeft f_cvRight f_cvWide f_inHead f_inSize f_outHead f_outSize f_lastCode f_lastDetail f_cacheLimit f_lengthLimit f_hand f_running f_linkFrom f_exitKind f_controlDone f_trapCode f_trapDetail a_mem a_marks a_visitCount a_inQueue a_outQueue a_blockStart a_blockCount a_blockRecent a_links a_entry a_cover a_opKind a_opMode a_opArg R
  obtain ⟨R0, G, C⟩ := R
  refine ⟨9, ?_⟩
  refine fl_2 R0.2.1 8 0 (by omega) 9 (by omega) g _ _ _ _ _ _ _ _ C ?_
  intro g' run' lf' bs' bc' br' lk' en' cv' C'
  exact re_mk (k := k + 4) R0 G C'
end
section
/-! move: pure -/
def mv_f (m : Nat → Int32) (f t a b : Nat) : Nat → Int32 := fun j => if t + a ≤ j ∧ j < t + b then m (f + (j - t)) else m j
theorem mv_f0 {m : Nat → Int32} {f t a : Nat} : mv_f m f t a a = m := by
  funext j
  exact if_neg (by omega)
theorem mv_in {m : Nat → Int32} {f t a b j : Nat} (h : t + a ≤ j ∧ j < t + b) : mv_f m f t a b j = m (f + (j - t)) := if_pos h
theorem mv_out {m : Nat → Int32} {f t a b j : Nat} (h : ¬ (t + a ≤ j ∧ j < t + b)) : mv_f m f t a b j = m j := if_neg h
theorem mv_up {m : Nat → Int32} {f t a b : Nat} (h : a ≤ b) : upd (mv_f m f t a b) (t + b) (m (f + b)) = mv_f m f t a (b + 1) := by
  funext j
  by_cases e : j = t + b
  · subst e
    rw [pk_us, mv_in (by omega)]
    exact congrArg m (by omega)
  · rw [pk_un e]
    by_cases q : t + a ≤ j ∧ j < t + b
    · rw [mv_in q, mv_in (by omega)]
    · rw [mv_out q, mv_out (by omega)]
theorem mv_dn {m : Nat → Int32} {f t a b : Nat} (h : a < b) : upd (mv_f m f t (a + 1) b) (t + a) (m (f + a)) = mv_f m f t a b := by
  funext j
  by_cases e : j = t + a
  · subst e
    rw [pk_us, mv_in (by omega)]
    exact congrArg m (by omega)
  · rw [pk_un e]
    by_cases q : t + (a + 1) ≤ j ∧ j < t + b
    · rw [mv_in q, mv_in (by omega)]
    · rw [mv_out q, mv_out (by omega)]
def mv_n (m : Nat → Int32) (f t : Nat) : Nat → Nat
  | 0 => 0
  | n + 1 => mv_n m f t n + (if m (t + n) = m (f + n) then 0 else 1)
theorem mv_nm {m : Nat → Int32} {f t a : Nat} : ∀ d, mv_n m f t a ≤ mv_n m f t (a + d) := by
  intro d
  induction d with
  | zero => exact Nat.le_refl _
  | succ d ih => exact Nat.le_trans ih (Nat.le_add_right _ _)
theorem mv_nm' {m : Nat → Int32} {f t a b : Nat} (h : a ≤ b) : mv_n m f t a ≤ mv_n m f t b := by
  obtain ⟨d, rfl⟩ : ∃ d, b = a + d := ⟨b - a, by omega⟩
  exact mv_nm d
theorem mv_nl {m : Nat → Int32} {f t : Nat} : ∀ n, mv_n m f t n ≤ n := by
  intro n
  induction n with
  | zero => exact Nat.le_refl _
  | succ n ih =>
    show mv_n m f t n + (if m (t + n) = m (f + n) then 0 else 1) ≤ n + 1
    by_cases e : m (t + n) = m (f + n)
    · rw [if_pos e]; omega
    · rw [if_neg e]; omega
/-! move: X -/
section MV
variable {f_size f_executedCount f_regA f_regX f_regS f_pc f_flagBits f_znPending f_znResult f_cvKind f_cvLeft f_cvRight f_cvWide f_inHead f_inSize f_outHead f_outSize f_lastCode f_lastDetail f_cacheLimit f_lengthLimit f_hand f_running f_linkFrom f_exitKind f_controlDone f_trapCode f_trapDetail : Int32} {a_mem a_marks a_visitCount a_inQueue a_outQueue a_blockStart a_blockCount a_blockRecent a_links a_entry a_cover a_opKind a_opMode a_opArg : Nat → Int32}
theorem mx_74 {post : Int32 → SX → Prop} {f t c sz n x k i : Nat} {z0 : Int32} (hz0 : z0 = nI i) (hz : sz ≤ 256) (hf : f + i < sz) (ht : t + i < sz) {g : Nat → Option (Nat × Nat)} (C : ca_CI sz g a_mem a_marks a_blockStart a_blockCount a_links a_entry a_cover a_opKind a_opMode a_opArg)
    (K : ∀ (g' : Nat → Option (Nat × Nat)) (run lf : Int32) (bs bc br lk en cv : Nat → Int32), ca_CI sz g' (upd a_mem (t + i) (a_mem (f + i))) a_marks bs bc lk en cv a_opKind a_opMode a_opArg →
      wX_move_52 post (nI f) (nI t) (nI c) n (nI (x + (if a_mem (t + i) = a_mem (f + i) then 0 else 1))) (nI (k + 1)) f_size f_executedCount f_regA f_regX f_regS f_pc f_flagBits f_znPending f_znResult f_cvKind f_cvLeft f_cvRight f_cvWide f_inHead f_inSize f_outHead f_outSize f_lastCode f_lastDetail f_cacheLimit f_lengthLimit f_hand run lf f_exitKind f_controlDone f_trapCode f_trapDetail (upd a_mem (t + i) (a_mem (f + i))) a_marks a_visitCount a_inQueue a_outQueue bs bc br lk en cv a_opKind a_opMode a_opArg) :
    wX_move_74 post (wX_move_52 post (nI f) (nI t) (nI c) n) (nI f) (nI t) (nI c) (nI x) (nI k) z0 f_size f_executedCount f_regA f_regX f_regS f_pc f_flagBits f_znPending f_znResult f_cvKind f_cvLeft f_cvRight f_cvWide f_inHead f_inSize f_outHead f_outSize f_lastCode f_lastDetail f_cacheLimit f_lengthLimit f_hand f_running f_linkFrom f_exitKind f_controlDone f_trapCode f_trapDetail a_mem a_marks a_visitCount a_inQueue a_outQueue a_blockStart a_blockCount a_blockRecent a_links a_entry a_cover a_opKind a_opMode a_opArg := by
  subst hz0
  have ef : nI f + nI i = nI (f + i) := nI_add f i
  have et : nI t + nI i = nI (t + i) := nI_add t i
  have cf : (nI f + nI i).toNatClampNeg = f + i := by rw [ef]; exact nI_clamp (by omega)
  have ct : (nI t + nI i).toNatClampNeg = t + i := by rw [et]; exact nI_clamp (by omega)
  refine And.intro (by rw [ef]; exact vp_in_nI (by omega) (by decide)) ?_
  refine nm_r (e' := a_mem (f + i)) (by rw [cf]) ?_
  refine And.intro (by rw [et]; exact vp_in_nI (by omega) (by decide)) ?_
  refine br_c (fun e => ?_) (fun e => ?_)
  · rw [ct] at e
    refine nm_r (e' := nI (k + 1)) (nI_1 k) ?_
    have q : upd a_mem (t + i) (a_mem (f + i)) = a_mem := ab_upid e
    rw [q, if_pos e] at K
    exact K g f_running f_linkFrom _ _ a_blockRecent _ _ _ C
  · rw [ct] at e
    refine nm_r (e' := nI (x + 1)) (nI_1 x) ?_
    rw [if_neg e] at K
    rw [et]
    refine xd_store hz (by omega) C ?_
    intro g' run lf bs bc br lk en cv C' _
    refine nm_r (e' := nI (k + 1)) (nI_1 k) ?_
    exact K g' run lf bs bc br lk en cv C'
theorem mx_up {post : Int32 → SX → Prop} {f t c sz : Nat} {m : Nat → Int32} (hz : sz ≤ 256) (hf : f + c ≤ sz) (ht : t + c ≤ sz) (htf : t ≤ f)
    (K : ∀ (g' : Nat → Option (Nat × Nat)) (run lf : Int32) (bs bc br lk en cv : Nat → Int32), ca_CI sz g' (mv_f m f t 0 c) a_marks bs bc lk en cv a_opKind a_opMode a_opArg → post (nI (mv_n m f t c)) (f_size, f_executedCount, f_regA, f_regX, f_regS, f_pc, f_flagBits, f_znPending, f_znResult, f_cvKind, f_cvLeft, f_cvRight, f_cvWide, f_inHead, f_inSize, f_outHead, f_outSize, f_lastCode, f_lastDetail, f_cacheLimit, f_lengthLimit, f_hand, run, lf, f_exitKind, f_controlDone, f_trapCode, f_trapDetail, mv_f m f t 0 c, a_marks, a_visitCount, a_inQueue, a_outQueue, bs, bc, br, lk, en, cv, a_opKind, a_opMode, a_opArg)) :
    ∀ d k, k + d = c → ∀ n, d < n → ∀ (g : Nat → Option (Nat × Nat)) (run lf : Int32) (bs bc br lk en cv : Nat → Int32), ca_CI sz g (mv_f m f t 0 k) a_marks bs bc lk en cv a_opKind a_opMode a_opArg →
    wX_move_52 post (nI f) (nI t) (nI c) n (nI (mv_n m f t k)) (nI k) f_size f_executedCount f_regA f_regX f_regS f_pc f_flagBits f_znPending f_znResult f_cvKind f_cvLeft f_cvRight f_cvWide f_inHead f_inSize f_outHead f_outSize f_lastCode f_lastDetail f_cacheLimit f_lengthLimit f_hand run lf f_exitKind f_controlDone f_trapCode f_trapDetail (mv_f m f t 0 k) a_marks a_visitCount a_inQueue a_outQueue bs bc br lk en cv a_opKind a_opMode a_opArg := by
  intro d
  induction d with
  | zero =>
    intro k hk n hn g run lf bs bc br lk en cv C
    obtain ⟨n, rfl⟩ : ∃ m, n = m + 1 := ⟨n - 1, by omega⟩
    have e : k = c := by omega
    subst e
    refine br_t (nI_le (by omega) (by omega)) ?_
    exact K g run lf bs bc br lk en cv C
  | succ d ih =>
    intro k hk n hn g run lf bs bc br lk en cv C
    obtain ⟨n, rfl⟩ : ∃ m, n = m + 1 := ⟨n - 1, by omega⟩
    refine br_f (nI_ge (by omega) (by omega)) ?_
    refine br_f (nI_nlt htf (by omega)) ?_
    refine mx_74 (i := k) rfl hz (by omega) (by omega) C ?_
    intro g' run' lf' bs' bc' br' lk' en' cv' C'
    have e1 : mv_f m f t 0 k (t + k) = m (t + k) := mv_out (by omega)
    have e2 : mv_f m f t 0 k (f + k) = m (f + k) := mv_out (by omega)
    rw [e1, e2, mv_up (by omega)]
    rw [e2, mv_up (by omega)] at C'
    exact ih (k + 1) (by omega) n (by omega) g' run' lf' bs' bc' br' lk' en' cv' C'
theorem mx_dn {post : Int32 → SX → Prop} {f t c sz : Nat} {m : Nat → Int32} (hz : sz ≤ 256) (hf : f + c ≤ sz) (ht : t + c ≤ sz) (htf : f < t)
    (K : ∀ (g' : Nat → Option (Nat × Nat)) (run lf : Int32) (bs bc br lk en cv : Nat → Int32), ca_CI sz g' (mv_f m f t 0 c) a_marks bs bc lk en cv a_opKind a_opMode a_opArg → post (nI (mv_n m f t c)) (f_size, f_executedCount, f_regA, f_regX, f_regS, f_pc, f_flagBits, f_znPending, f_znResult, f_cvKind, f_cvLeft, f_cvRight, f_cvWide, f_inHead, f_inSize, f_outHead, f_outSize, f_lastCode, f_lastDetail, f_cacheLimit, f_lengthLimit, f_hand, run, lf, f_exitKind, f_controlDone, f_trapCode, f_trapDetail, mv_f m f t 0 c, a_marks, a_visitCount, a_inQueue, a_outQueue, bs, bc, br, lk, en, cv, a_opKind, a_opMode, a_opArg)) :
    ∀ d k, k + d = c → ∀ n, d < n → ∀ (g : Nat → Option (Nat × Nat)) (run lf : Int32) (bs bc br lk en cv : Nat → Int32), ca_CI sz g (mv_f m f t d c) a_marks bs bc lk en cv a_opKind a_opMode a_opArg →
    wX_move_52 post (nI f) (nI t) (nI c) n (nI (mv_n m f t c - mv_n m f t d)) (nI k) f_size f_executedCount f_regA f_regX f_regS f_pc f_flagBits f_znPending f_znResult f_cvKind f_cvLeft f_cvRight f_cvWide f_inHead f_inSize f_outHead f_outSize f_lastCode f_lastDetail f_cacheLimit f_lengthLimit f_hand run lf f_exitKind f_controlDone f_trapCode f_trapDetail (mv_f m f t d c) a_marks a_visitCount a_inQueue a_outQueue bs bc br lk en cv a_opKind a_opMode a_opArg := by
  intro d
  induction d with
  | zero =>
    intro k hk n hn g run lf bs bc br lk en cv C
    obtain ⟨n, rfl⟩ : ∃ m, n = m + 1 := ⟨n - 1, by omega⟩
    have e : k = c := by omega
    subst e
    refine br_t (nI_le (by omega) (by omega)) ?_
    exact K g run lf bs bc br lk en cv C
  | succ d ih =>
    intro k hk n hn g run lf bs bc br lk en cv C
    obtain ⟨n, rfl⟩ : ∃ m, n = m + 1 := ⟨n - 1, by omega⟩
    refine br_f (nI_ge (by omega) (by omega)) ?_
    refine br_t (nI_lt htf (by omega)) ?_
    have ei : nI c - 1 - nI k = nI d := by
      rw [show nI c - 1 = nI (c - 1) from pk_sub (b := 1) (by omega), pk_sub (by omega)]
      exact congrArg nI (by omega)
    refine mx_74 (i := d) ei hz (by omega) (by omega) C ?_
    intro g' run' lf' bs' bc' br' lk' en' cv' C'
    have e1 : mv_f m f t (d + 1) c (t + d) = m (t + d) := mv_out (by omega)
    have e2 : mv_f m f t (d + 1) c (f + d) = m (f + d) := mv_out (by omega)
    rw [e1, e2, mv_dn (by omega)]
    rw [e2, mv_dn (by omega)] at C'
    have e3 : mv_n m f t (d + 1) = mv_n m f t d + (if m (t + d) = m (f + d) then 0 else 1) := rfl
    have e4 : mv_n m f t (d + 1) ≤ mv_n m f t c := mv_nm' (by omega)
    have e5 : mv_n m f t c - mv_n m f t (d + 1) + (if m (t + d) = m (f + d) then 0 else 1) = mv_n m f t c - mv_n m f t d := by omega
    rw [e5]
    exact ih (k + 1) (by omega) n (by omega) g' run' lf' bs' bc' br' lk' en' cv' C'
end MV
/-! move: Y -/
section MY
variable {f_inSize f_outSize f_size f_regA f_regX f_regS f_pc y_fl f_executedCount f_lastCode f_lastDetail : Int32} {a_mem y_scr a_visitCount a_marks y_inp y_outp : Nat → Int32}
theorem my_83 {post : Int32 → SY → Prop} {f t c sz : Nat} {m : Nat → Int32} (hz : sz ≤ 256) (ht : t + c ≤ sz) (hs : ∀ j, j < c → y_scr j = m (f + j))
    (K : post (nI (mv_n m f t c)) (f_inSize, f_outSize, f_size, f_regA, f_regX, f_regS, f_pc, y_fl, f_executedCount, f_lastCode, f_lastDetail, mv_f m f t 0 c, y_scr, a_visitCount, a_marks, y_inp, y_outp)) :
    ∀ d k, k + d = c → ∀ n, d < n → wY_move_83 post (nI t) (nI c) f_inSize f_outSize f_size f_regA f_regX f_regS f_pc y_fl f_executedCount f_lastCode f_lastDetail n (nI (mv_n m f t k)) (nI k) (mv_f m f t 0 k) y_scr a_visitCount a_marks y_inp y_outp := by
  intro d
  induction d with
  | zero =>
    intro k hk n hn
    obtain ⟨n, rfl⟩ : ∃ m, n = m + 1 := ⟨n - 1, by omega⟩
    have e : k = c := by omega
    subst e
    exact br_t (nI_le (by omega) (by omega)) K
  | succ d ih =>
    intro k hk n hn
    obtain ⟨n, rfl⟩ : ∃ m, n = m + 1 := ⟨n - 1, by omega⟩
    have et : nI t + nI k = nI (t + k) := nI_add t k
    have ct : (nI t + nI k).toNatClampNeg = t + k := by rw [et]; exact nI_clamp (by omega)
    have ck : (nI k).toNatClampNeg = k := nI_clamp (by omega)
    have hit : vp_in (nI t + nI k) 256 := by rw [et]; exact vp_in_nI (by omega) (by decide)
    have hik : vp_in (nI k) 256 := vp_in_nI (by omega) (by decide)
    have e1 : mv_f m f t 0 k (t + k) = m (t + k) := mv_out (by omega)
    have W : ∀ x : Nat, x = mv_n m f t (k + 1) → wY_move_111 post (wY_move_83 post (nI t) (nI c) f_inSize f_outSize f_size f_regA f_regX f_regS f_pc y_fl f_executedCount f_lastCode f_lastDetail n) (nI t) (nI c) (nI x) (nI k) f_inSize f_outSize f_size f_regA f_regX f_regS f_pc y_fl f_executedCount f_lastCode f_lastDetail (mv_f m f t 0 k) y_scr a_visitCount a_marks y_inp y_outp := by
      intro x hx
      subst hx
      refine And.intro hik ?_
      refine And.intro hit ?_
      refine nm_r (e' := mv_f m f t 0 (k + 1)) (by rw [ct, ck, hs k (by omega), mv_up (by omega)]) ?_
      refine nm_r (e' := nI (k + 1)) (nI_1 k) ?_
      exact ih (k + 1) (by omega) n (by omega)
    refine br_f (nI_ge (by omega) (by omega)) ?_
    refine And.intro hit ?_
    refine And.intro hik ?_
    refine br_c (fun e => ?_) (fun e => ?_)
    · rw [ct, ck, e1, hs k (by omega)] at e
      refine W _ ?_
      show _ = mv_n m f t k + (if m (t + k) = m (f + k) then 0 else 1)
      rw [if_pos e]; rfl
    · rw [ct, ck, e1, hs k (by omega)] at e
      refine nm_r (e' := nI (mv_n m f t k + 1)) (nI_1 _) ?_
      refine W _ ?_
      show _ = mv_n m f t k + (if m (t + k) = m (f + k) then 0 else 1)
      rw [if_neg e]
theorem my_49 {post : Int32 → SY → Prop} {f t c sz : Nat} (hz : sz ≤ 256) (hf : f + c ≤ sz) (ht : t + c ≤ sz)
    (K : ∀ scr : Nat → Int32, post (nI (mv_n a_mem f t c)) (f_inSize, f_outSize, f_size, f_regA, f_regX, f_regS, f_pc, y_fl, f_executedCount, f_lastCode, f_lastDetail, mv_f a_mem f t 0 c, scr, a_visitCount, a_marks, y_inp, y_outp)) :
    ∀ d k, k + d = c → ∀ n, d < n → ∀ scr : Nat → Int32, (∀ j, j < k → scr j = a_mem (f + j)) → wY_move_49 post (nI f) (nI t) (nI c) f_inSize f_outSize f_size f_regA f_regX f_regS f_pc y_fl f_executedCount f_lastCode f_lastDetail n (nI k) a_mem scr a_visitCount a_marks y_inp y_outp := by
  intro d
  induction d with
  | zero =>
    intro k hk n hn scr hs
    obtain ⟨n, rfl⟩ : ∃ m, n = m + 1 := ⟨n - 1, by omega⟩
    have e : k = c := by omega
    subst e
    refine br_t (nI_le (by omega) (by omega)) ?_
    refine ⟨k + 1, ?_⟩
    have W := my_83 (post := post) (f_inSize := f_inSize) (f_outSize := f_outSize) (f_size := f_size) (f_regA := f_regA) (f_regX := f_regX) (f_regS := f_regS) (f_pc := f_pc) (y_fl := y_fl) (f_executedCount := f_executedCount) (f_lastCode := f_lastCode) (f_lastDetail := f_lastDetail) (a_visitCount := a_visitCount) (a_marks := a_marks) (y_inp := y_inp) (y_outp := y_outp) hz ht hs (K scr) k 0 (by omega) (k + 1) (by omega)
    rw [mv_f0] at W
    exact W
  | succ d ih =>
    intro k hk n hn scr hs
    obtain ⟨n, rfl⟩ : ∃ m, n = m + 1 := ⟨n - 1, by omega⟩
    have ef : nI f + nI k = nI (f + k) := nI_add f k
    have cf : (nI f + nI k).toNatClampNeg = f + k := by rw [ef]; exact nI_clamp (by omega)
    have ck : (nI k).toNatClampNeg = k := nI_clamp (by omega)
    refine br_f (nI_ge (by omega) (by omega)) ?_
    refine And.intro (by rw [ef]; exact vp_in_nI (by omega) (by decide)) ?_
    refine And.intro (vp_in_nI (by omega) (by decide)) ?_
    refine nm_r (e' := upd scr k (a_mem (f + k))) (by rw [cf, ck]) ?_
    refine nm_r (e' := nI (k + 1)) (nI_1 k) ?_
    refine ih (k + 1) (by omega) n (by omega) _ ?_
    intro j hj
    by_cases e : j = k
    · subst e
      rw [pk_us]
    · rw [pk_un e]
      exact hs j (by omega)
end MY
theorem mv_W {m : Nat → Int32} {f t a b : Nat} (h : ∀ j, ab_W (m j)) : ∀ j, ab_W (mv_f m f t a b j) := by
  intro j
  by_cases q : t + a ≤ j ∧ j < t + b
  · rw [mv_in q]; exact h _
  · rw [mv_out q]; exact h _
theorem i_vc_move {k : Nat} {u : SX} {v : SY} (I : i_Rel k u v) (hk : k + 4 ≤ 2051) (v1 : Int32) (v2 : Int32) (v3 : Int32) : wpX_move (fun r u' => wpY_move (fun r' v' => r' = r ∧ i_Rel (k + 4) u' v') v v1 v2 v3) u v1 v2 v3 := by
  refine re_el (P := fun u v => wpX_move (fun r u' => wpY_move (fun r' v' => r' = r ∧ i_Rel (k + 4) u' v') v v1 v2 v3) u v1 v2 v3) ?_ I
  intro sz cl ll hd p g y_fl y_scr y_inp y_outp f_size f_executedCount f_regA f_regX f_regS f_pc f_flagBits f_znPending f_znResult f_cvKind f_cvLeft f_cvRight f_cvWide f_inHead f_inSize f_outHead f_outSize f_lastCode f_lastDetail f_cacheLimit f_lengthLimit f_hand f_running f_linkFrom f_exitKind f_controlDone f_trapCode f_trapDetail a_mem a_marks a_visitCount a_inQueue a_outQueue a_blockStart a_blockCount a_blockRecent a_links a_entry a_cover a_opKind a_opMode a_opArg R
  obtain ⟨R0, G, C⟩ := R
  have hz := R0.2.1
  have N : ∀ (x : Int32) (n : Nat), n < 2 ^ 30 → nI (n + 1) ≤ x → ¬ x ≤ nI n := by
    intro x n hn h q
    exact nI_ge (by omega) (by omega) (Int32.le_trans h q)
  rcases pk_ix v3 (n := sz + 1) (by omega) with h | h | ⟨c, hc, rfl⟩
  · exact br_t h (br_t h ⟨rfl, re_mk R0 G C⟩)
  · have h0 := re_nlt h (by omega)
    have h1 := N v3 sz (by omega) h
    exact br_f h0 (br_f h1 (br_f h0 (br_f h1 ⟨rfl, re_mk R0 G C⟩)))
  have c0 : ¬ nI c < 0 := nI_pos (by omega)
  have c1 : nI c ≤ nI sz := nI_le (by omega) (by omega)
  have es : nI sz - nI c = nI (sz - c) := pk_sub (by omega)
  rcases pk_ix v1 (n := sz - c + 1) (by omega) with h | h | ⟨f, hf, rfl⟩
  · exact br_f c0 (br_t c1 (br_t h (br_f c0 (br_t c1 (br_t h ⟨rfl, re_mk R0 G C⟩)))))
  · have h0 := re_nlt h (by omega)
    have h1 : ¬ v1 ≤ nI sz - nI c := by rw [es]; exact N v1 (sz - c) (by omega) h
    exact br_f c0 (br_t c1 (br_f h0 (br_f h1 (br_f c0 (br_t c1 (br_f h0 (br_f h1 ⟨rfl, re_mk R0 G C⟩)))))))
  have f0 : ¬ nI f < 0 := nI_pos (by omega)
  have f1 : nI f ≤ nI sz - nI c := by rw [es]; exact nI_le (by omega) (by omega)
  rcases pk_ix v2 (n := sz - c + 1) (by omega) with h | h | ⟨t, ht, rfl⟩
  · exact br_f c0 (br_t c1 (br_f f0 (br_t f1 (br_t h (br_f c0 (br_t c1 (br_f f0 (br_t f1 (br_t h ⟨rfl, re_mk R0 G C⟩)))))))))
  · have h0 := re_nlt h (by omega)
    have h1 : ¬ v2 ≤ nI sz - nI c := by rw [es]; exact N v2 (sz - c) (by omega) h
    exact br_f c0 (br_t c1 (br_f f0 (br_t f1 (br_f h0 (br_f h1 (br_f c0 (br_t c1 (br_f f0 (br_t f1 (br_f h0 (br_f h1 ⟨rfl, re_mk R0 G C⟩)))))))))))
  have t0 : ¬ nI t < 0 := nI_pos (by omega)
  have t1 : nI t ≤ nI sz - nI c := by rw [es]; exact nI_le (by omega) (by omega)
  obtain ⟨wA, wX, wS, wM, hF, hI, hO⟩ := G
  have Y : ∀ (g' : Nat → Option (Nat × Nat)) (run lf : Int32) (bs bc br lk en cv : Nat → Int32), ca_CI sz g' (mv_f a_mem f t 0 c) a_marks bs bc lk en cv a_opKind a_opMode a_opArg →
      wpY_move (fun r' v' => r' = nI (mv_n a_mem f t c) ∧ i_Rel (k + 4) (nI sz, f_executedCount, f_regA, f_regX, f_regS, nI p, f_flagBits, f_znPending, f_znResult, f_cvKind, f_cvLeft, f_cvRight, f_cvWide, f_inHead, f_inSize, f_outHead, f_outSize, f_lastCode, f_lastDetail, nI cl, nI ll, nI hd, run, lf, f_exitKind, f_controlDone, f_trapCode, f_trapDetail, mv_f a_mem f t 0 c, a_marks, a_visitCount, a_inQueue, a_outQueue, bs, bc, br, lk, en, cv, a_opKind, a_opMode, a_opArg) v') (f_inSize, f_outSize, nI sz, f_regA, f_regX, f_regS, nI p, y_fl, f_executedCount, f_lastCode, f_lastDetail, a_mem, y_scr, a_visitCount, a_marks, y_inp, y_outp) (nI f) (nI t) (nI c) := by
    intro g' run lf bs bc br lk en cv C'
    refine br_f c0 (br_t c1 (br_f f0 (br_t f1 (br_f t0 (br_t t1 ?_)))))
    refine ⟨c + 1, ?_⟩
    refine my_49 hz (by omega) (by omega) ?_ c 0 (by omega) (c + 1) (by omega) y_scr (fun j hj => by omega)
    intro scr
    exact ⟨rfl, re_mk R0 ⟨wA, wX, wS, mv_W wM, hF, hI, hO⟩ C'⟩
  refine br_f c0 (br_t c1 (br_f f0 (br_t f1 (br_f t0 (br_t t1 ?_)))))
  refine ⟨c + 1, ?_⟩
  by_cases htf : t ≤ f
  · have W := mx_up (post := fun r u' => wpY_move (fun r' v' => r' = r ∧ i_Rel (k + 4) u' v') (f_inSize, f_outSize, nI sz, f_regA, f_regX, f_regS, nI p, y_fl, f_executedCount, f_lastCode, f_lastDetail, a_mem, y_scr, a_visitCount, a_marks, y_inp, y_outp) (nI f) (nI t) (nI c)) (m := a_mem) hz (by omega) (by omega) htf Y c 0 (by omega) (c + 1) (by omega) g f_running f_linkFrom a_blockStart a_blockCount a_blockRecent a_links a_entry a_cover (by rw [mv_f0]; exact C)
    rw [mv_f0] at W
    exact W
  · have W := mx_dn (post := fun r u' => wpY_move (fun r' v' => r' = r ∧ i_Rel (k + 4) u' v') (f_inSize, f_outSize, nI sz, f_regA, f_regX, f_regS, nI p, y_fl, f_executedCount, f_lastCode, f_lastDetail, a_mem, y_scr, a_visitCount, a_marks, y_inp, y_outp) (nI f) (nI t) (nI c)) (m := a_mem) hz (by omega) (by omega) (by omega) Y c 0 (by omega) (c + 1) (by omega) g f_running f_linkFrom a_blockStart a_blockCount a_blockRecent a_links a_entry a_cover (by rw [mv_f0]; exact C)
    rw [mv_f0, Nat.sub_self] at W
    exact W
end
section
/-! the constructors -/
section IN
variable {f_size f_executedCount f_regA f_regX f_regS f_pc f_flagBits f_znPending f_znResult f_cvKind f_cvLeft f_cvRight f_cvWide f_inHead f_inSize f_outHead f_outSize f_lastCode f_lastDetail f_cacheLimit f_lengthLimit f_hand f_running f_linkFrom f_exitKind f_controlDone f_trapCode f_trapDetail : Int32} {a_mem a_marks a_visitCount a_inQueue a_outQueue a_blockStart a_blockCount a_blockRecent a_links a_entry a_cover a_opKind a_opMode a_opArg : Nat → Int32}
theorem in_clamp {post : Int32 → Prop} {p0 : Int32} {lo hi : Nat} (hl : lo ≤ hi) (hh : hi < 2 ^ 31)
    (K : ∀ c : Nat, lo ≤ c → c ≤ hi → (p0 = nI c ∨ (c = hi ∧ nI lo ≤ p0 ∧ ¬ p0 ≤ nI hi) ∨ (c = lo ∧ ¬ nI lo ≤ p0)) → post (nI c)) : wpX_clamp post (f_size, f_executedCount, f_regA, f_regX, f_regS, f_pc, f_flagBits, f_znPending, f_znResult, f_cvKind, f_cvLeft, f_cvRight, f_cvWide, f_inHead, f_inSize, f_outHead, f_outSize, f_lastCode, f_lastDetail, f_cacheLimit, f_lengthLimit, f_hand, f_running, f_linkFrom, f_exitKind, f_controlDone, f_trapCode, f_trapDetail, a_mem, a_marks, a_visitCount, a_inQueue, a_outQueue, a_blockStart, a_blockCount, a_blockRecent, a_links, a_entry, a_cover, a_opKind, a_opMode, a_opArg) p0 (nI lo) (nI hi) := by
  refine br_c (fun h1 => ?_) (fun h1 => ?_)
  · refine br_c (fun h2 => ?_) (fun h2 => ?_)
    · obtain ⟨c, hc, rfl⟩ := nI_of2 (n := hi) (nI_toInt hh) (re_nlt h1 (by omega)) h2
      exact K c ((nI_leI (by omega) (by omega)).mp h1) hc (Or.inl rfl)
    · exact K hi hl (Nat.le_refl hi) (Or.inr (Or.inl ⟨rfl, h1, h2⟩))
  · exact K lo (Nat.le_refl lo) hl (Or.inr (Or.inr ⟨rfl, h1⟩))
theorem in_232 {post : SX → Prop} : ∀ d i, i + d = 16 → ∀ n, d < n → ∀ lk : Nat → Int32, (∀ j, j < i → lk j = -1) → (∀ lk' : Nat → Int32, (∀ j, j < 16 → lk' j = -1) → post (f_size, f_executedCount, f_regA, f_regX, f_regS, f_pc, f_flagBits, f_znPending, f_znResult, f_cvKind, f_cvLeft, f_cvRight, f_cvWide, f_inHead, f_inSize, f_outHead, f_outSize, f_lastCode, f_lastDetail, f_cacheLimit, f_lengthLimit, f_hand, f_running, f_linkFrom, f_exitKind, f_controlDone, f_trapCode, f_trapDetail, a_mem, a_marks, a_visitCount, a_inQueue, a_outQueue, a_blockStart, a_blockCount, a_blockRecent, lk', a_entry, a_cover, a_opKind, a_opMode, a_opArg)) → wX_init_232 post f_size f_executedCount f_regA f_regX f_regS f_pc f_flagBits f_znPending f_znResult f_cvKind f_cvLeft f_cvRight f_cvWide f_inHead f_inSize f_outHead f_outSize f_lastCode f_lastDetail f_cacheLimit f_lengthLimit f_hand f_running f_linkFrom f_exitKind f_controlDone f_trapCode f_trapDetail n (nI i) a_mem a_marks a_visitCount a_inQueue a_outQueue a_blockStart a_blockCount a_blockRecent lk a_entry a_cover a_opKind a_opMode a_opArg := by
  intro d
  induction d with
  | zero =>
    intro i hi n hn lk h K
    obtain ⟨n, rfl⟩ : ∃ m, n = m + 1 := ⟨n - 1, by omega⟩
    refine br_t (nI_le (a := 16) (by omega) (by omega)) ?_
    exact K lk (fun j hj => h j (by omega))
  | succ d ih =>
    intro i hi n hn lk h K
    obtain ⟨n, rfl⟩ : ∃ m, n = m + 1 := ⟨n - 1, by omega⟩
    refine br_f (nI_ge (b := 16) (by omega) (by decide)) ?_
    refine And.intro (vp_in_nI (by omega) (by decide)) ?_
    refine nm_r (e' := upd lk i (-1)) (by rw [nI_clamp (by omega)]) ?_
    refine nm_r (e' := nI (i + 1)) (nI_1 i) ?_
    refine ih (i + 1) (by omega) n (by omega) _ ?_ K
    intro j hj
    by_cases e : j = i
    · rw [e, pk_us]
    · rw [pk_un e]; exact h j (by omega)
theorem in_208 {post : SX → Prop} : ∀ d i, i + d = 8 → ∀ n, d < n → ∀ bs : Nat → Int32, (∀ j, j < i → bs j = -1) → (∀ bs' : Nat → Int32, (∀ j, j < 8 → bs' j = -1) → ∃ n232, wX_init_232 post f_size f_executedCount f_regA f_regX f_regS f_pc f_flagBits f_znPending f_znResult f_cvKind f_cvLeft f_cvRight f_cvWide f_inHead f_inSize f_outHead f_outSize f_lastCode f_lastDetail f_cacheLimit f_lengthLimit f_hand f_running f_linkFrom f_exitKind f_controlDone f_trapCode f_trapDetail n232 0 a_mem a_marks a_visitCount a_inQueue a_outQueue bs' a_blockCount a_blockRecent a_links a_entry a_cover a_opKind a_opMode a_opArg) → wX_init_208 post f_size f_executedCount f_regA f_regX f_regS f_pc f_flagBits f_znPending f_znResult f_cvKind f_cvLeft f_cvRight f_cvWide f_inHead f_inSize f_outHead f_outSize f_lastCode f_lastDetail f_cacheLimit f_lengthLimit f_hand f_running f_linkFrom f_exitKind f_controlDone f_trapCode f_trapDetail n (nI i) a_mem a_marks a_visitCount a_inQueue a_outQueue bs a_blockCount a_blockRecent a_links a_entry a_cover a_opKind a_opMode a_opArg := by
  intro d
  induction d with
  | zero =>
    intro i hi n hn bs h K
    obtain ⟨n, rfl⟩ : ∃ m, n = m + 1 := ⟨n - 1, by omega⟩
    refine br_t (nI_le (a := 8) (by omega) (by omega)) ?_
    exact K bs (fun j hj => h j (by omega))
  | succ d ih =>
    intro i hi n hn bs h K
    obtain ⟨n, rfl⟩ : ∃ m, n = m + 1 := ⟨n - 1, by omega⟩
    refine br_f (nI_ge (b := 8) (by omega) (by decide)) ?_
    refine And.intro (vp_in_nI (by omega) (by decide)) ?_
    refine nm_r (e' := upd bs i (-1)) (by rw [nI_clamp (by omega)]) ?_
    refine nm_r (e' := nI (i + 1)) (nI_1 i) ?_
    refine ih (i + 1) (by omega) n (by omega) _ ?_ K
    intro j hj
    by_cases e : j = i
    · rw [e, pk_us]
    · rw [pk_un e]; exact h j (by omega)
theorem in_183 {post : SX → Prop} : ∀ d i, i + d = 256 → ∀ n, d < n → ∀ en : Nat → Int32, (∀ j, j < i → en j = -1) → (∀ en' : Nat → Int32, (∀ j, j < 256 → en' j = -1) → ∃ n208, wX_init_208 post f_size f_executedCount f_regA f_regX f_regS f_pc f_flagBits f_znPending f_znResult f_cvKind f_cvLeft f_cvRight f_cvWide f_inHead f_inSize f_outHead f_outSize f_lastCode f_lastDetail f_cacheLimit f_lengthLimit f_hand f_running f_linkFrom f_exitKind f_controlDone f_trapCode f_trapDetail n208 0 a_mem a_marks a_visitCount a_inQueue a_outQueue a_blockStart a_blockCount a_blockRecent a_links en' a_cover a_opKind a_opMode a_opArg) → wX_init_183 post f_size f_executedCount f_regA f_regX f_regS f_pc f_flagBits f_znPending f_znResult f_cvKind f_cvLeft f_cvRight f_cvWide f_inHead f_inSize f_outHead f_outSize f_lastCode f_lastDetail f_cacheLimit f_lengthLimit f_hand f_running f_linkFrom f_exitKind f_controlDone f_trapCode f_trapDetail n (nI i) a_mem a_marks a_visitCount a_inQueue a_outQueue a_blockStart a_blockCount a_blockRecent a_links en a_cover a_opKind a_opMode a_opArg := by
  intro d
  induction d with
  | zero =>
    intro i hi n hn en h K
    obtain ⟨n, rfl⟩ : ∃ m, n = m + 1 := ⟨n - 1, by omega⟩
    refine br_t (nI_le (a := 256) (by omega) (by omega)) ?_
    exact K en (fun j hj => h j (by omega))
  | succ d ih =>
    intro i hi n hn en h K
    obtain ⟨n, rfl⟩ : ∃ m, n = m + 1 := ⟨n - 1, by omega⟩
    refine br_f (nI_ge (b := 256) (by omega) (by decide)) ?_
    refine And.intro (vp_in_nI (by omega) (by decide)) ?_
    refine nm_r (e' := upd en i (-1)) (by rw [nI_clamp (by omega)]) ?_
    refine nm_r (e' := nI (i + 1)) (nI_1 i) ?_
    refine ih (i + 1) (by omega) n (by omega) _ ?_ K
    intro j hj
    by_cases e : j = i
    · rw [e, pk_us]
    · rw [pk_un e]; exact h j (by omega)
end IN
theorem in_q : qu_R (fun _ => 0) 0 0 (fun _ => 0) := ⟨0, 0, rfl, rfl, by decide, by decide, fun j hj => by omega, fun _ => ab_W0⟩
theorem in_cnt {a : Nat} : ∀ n, ca_cnt (fun _ => none) a n = 0 := by
  intro n
  induction n with
  | zero => rfl
  | succ n ih =>
    show ca_cnt (fun _ => none) a n + ca_cov (fun _ => none) n a = 0
    rw [ih, ca_cov_n rfl]
theorem in_CI {sz : Nat} {bs lk en : Nat → Int32} (hb : ∀ j, j < 8 → bs j = -1) (hl : ∀ j, j < 16 → lk j = -1) (he : ∀ j, j < 256 → en j = -1) : ca_CI sz (fun _ => none) (fun _ => 0) (fun _ => 0) bs (fun _ => 0) lk en (fun _ => 0) (fun _ => 0) (fun _ => 0) (fun _ => 0) := by
  refine ⟨fun s hs _ => hb s hs, ?_, fun a ha => Or.inl (he a ha), ?_, fun s e hs h2 => Or.inl (hl _ (by omega))⟩
  · intro s st ct hs h
    cases h
  · intro a ha
    rw [in_cnt]; rfl
theorem i_vc0 (k0 : Int32) (k1 : Int32) (k2 : Int32) : wpX_init (fun u => wpY_init (fun v => i_Rel 3 u v) k0 k1 k2) k0 k1 k2 := by
  unfold wpX_init
  refine in_clamp (lo := 32) (hi := 256) (by decide) (by decide) ?_
  intro sz h1 h2 hs
  refine in_clamp (lo := 1) (hi := 8) (by decide) (by decide) ?_
  intro cl c1 c2 _
  refine in_clamp (lo := 1) (hi := 16) (by decide) (by decide) ?_
  intro ll l1 l2 _
  refine ⟨257, ?_⟩
  refine in_183 256 0 (by omega) 257 (by omega) _ (fun j hj => by omega) ?_
  intro en hen
  refine ⟨9, ?_⟩
  refine in_208 8 0 (by omega) 9 (by omega) _ (fun j hj => by omega) ?_
  intro bs hbs
  refine ⟨17, ?_⟩
  refine in_232 16 0 (by omega) 17 (by omega) _ (fun j hj => by omega) ?_
  intro lk hlk
  have F : i_Rel 3 (nI sz, 0, 0, 0, nI sz, 0, 0, 0, 0, 0, 0, 0, 0, 0, 0, 0, 0, 0, 0, nI cl, nI ll, 0, -1, -1, 0, 0, 0, 0, (fun _ => 0), (fun _ => 0), (fun _ => 0), (fun _ => 0), (fun _ => 0), bs, (fun _ => 0), (fun _ => 0), lk, en, (fun _ => 0), (fun _ => 0), (fun _ => 0), (fun _ => 0)) (0, 0, nI sz, 0, 0, nI sz, 0, 0, 0, 0, 0, (fun _ => 0), (fun _ => 0), (fun _ => 0), (fun _ => 0), (fun _ => 0), (fun _ => 0)) := by
    refine re_mk (hd := 0) (p := 0) (y_fl := 0) (y_scr := fun _ => 0) (y_inp := fun _ => 0) (y_outp := fun _ => 0) ⟨h1, h2, c1, c2, l1, l2, c1, by decide⟩ ⟨ab_W0, ab_W0, ab_Wn (by omega), fun _ => ab_W0, by decide +kernel, in_q, in_q⟩ (in_CI hbs hlk hen)
  rcases hs with rfl | ⟨rfl, h3, h4⟩ | ⟨rfl, h3⟩
  · refine br_t (nI_le (a := 32) h1 (by omega)) ?_
    exact br_t (nI_le (b := 256) h2 (by decide)) F
  · refine br_t h3 ?_
    exact br_f h4 F
  · refine br_f h3 ?_
    exact br_t (by decide) F
end
