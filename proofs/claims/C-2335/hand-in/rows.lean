section
/-! rows of kit/rows (starting text) -/
theorem pk_us {f : Nat → Int32} {k : Nat} {x : Int32} : upd f k x k = x := if_pos rfl
theorem pk_un {f : Nat → Int32} {k j : Nat} {x : Int32} (h : j ≠ k) : upd f k x j = f j := if_neg h
theorem pk_sub {a b : Nat} (h : b ≤ a) : nI a - nI b = nI (a - b) := by
  obtain ⟨c, rfl⟩ : ∃ c, a = c + b := ⟨a - b, by omega⟩
  rw [← nI_add, Int32.add_sub_cancel, Nat.add_sub_cancel]
theorem pk_m1 (n : Nat) : nI (n + 1) + (-1) = nI n := by
  rw [← nI_1, Int32.add_assoc, show (1 : Int32) + (-1) = 0 from rfl, Int32.add_zero]
theorem pk_mul (a b : Nat) : nI a * nI b = nI (a * b) := (Int32.ofNat_mul a b).symm
theorem pk_div {a d : Nat} (ha : a < 2 ^ 31) (h0 : 0 < d) (hd : d < 2 ^ 31) : nI a / nI d = nI (a / d) := by
  apply Int32.toInt_inj.mp
  rw [lg_idiv_nonneg (by rw [nI_toInt ha]; omega) (by rw [nI_toInt hd]; omega), nI_toInt ha, nI_toInt hd, nI_toInt (Nat.lt_of_le_of_lt (Nat.div_le_self a d) ha)]
  first | rfl | exact (Int.natCast_ediv _ _).symm
theorem pk_rem {a d : Nat} (ha : a < 2 ^ 31) (h0 : 0 < d) (hd : d < 2 ^ 31) : nI a - nI a / nI d * nI d = nI (a % d) := by
  rw [pk_div ha h0 hd, pk_mul, pk_sub (Nat.div_mul_le_self a d)]
  exact congrArg nI (by have := Nat.div_add_mod' a d; omega)
theorem pk_sub_toInt {a b : Nat} (ha : a < 2 ^ 30) (hb : b < 2 ^ 30) : (nI a - nI b).toInt = (a : Int) - b := by
  rw [Int32.toInt_sub, nI_toInt (by omega), nI_toInt (by omega)]
  exact Int.bmod_eq_of_le (by omega) (by omega)
theorem pk_sneg {a b : Nat} (hb : b < 2 ^ 30) (h : a < b) : nI a - nI b < 0 := by
  rw [Int32.lt_iff_toInt_lt, pk_sub_toInt (by omega) hb, show (0 : Int32).toInt = 0 from by decide]
  omega
theorem pk_ix (x : Int32) {n : Nat} (hn : n < 2 ^ 31) : x < 0 ∨ nI n ≤ x ∨ ∃ j : Nat, j < n ∧ x = nI j := by
  by_cases h : x < 0
  · exact Or.inl h
  · obtain ⟨j, hj, rfl⟩ := nI_of h
    by_cases h2 : j < n
    · exact Or.inr (Or.inr ⟨j, h2, rfl⟩)
    · exact Or.inr (Or.inl (nI_le (by omega) hj))
theorem pk_le {x y : Int32} {A B : Prop} (a b : Nat) (f : a ≤ b → A) (g : b < a → B) (hx : x = nI a := by rfl) (hy : y = nI b := by rfl) (ha : a < 2 ^ 31 := by omega) (hb : b < 2 ^ 31 := by omega) : (x ≤ y → A) ∧ (¬ x ≤ y → B) := by
  subst hx hy
  rw [nI_leI ha hb]
  exact ⟨f, fun z => g (by omega)⟩
theorem pk_lt {x y : Int32} {A B : Prop} (a b : Nat) (f : a < b → A) (g : b ≤ a → B) (hx : x = nI a := by rfl) (hy : y = nI b := by rfl) (ha : a < 2 ^ 31 := by omega) (hb : b < 2 ^ 31 := by omega) : (x < y → A) ∧ (¬ x < y → B) := by
  subst hx hy
  rw [nI_ltI ha hb]
  exact ⟨f, fun z => g (by omega)⟩
theorem pk_eq {x y : Int32} {A B : Prop} (a b : Nat) (f : a = b → A) (g : a ≠ b → B) (hx : x = nI a := by rfl) (hy : y = nI b := by rfl) (ha : a < 2 ^ 31 := by omega) (hb : b < 2 ^ 31 := by omega) : (x = y → A) ∧ (¬ x = y → B) := by
  subst hx hy
  rw [nI_eq ha hb]
  exact ⟨f, g⟩
theorem pk_in {x : Int32} (n N : Nat) (h : n < N) (hx : x = nI n := by rfl) (hN : N < 2 ^ 31 := by omega) : vp_in x N := by
  subst hx
  exact vp_in_nI h hN
theorem pk_cl {x : Int32} (n : Nat) (hx : x = nI n := by rfl) (h : n < 2 ^ 31 := by omega) : x.toNatClampNeg = n := by
  subst hx
  exact nI_clamp h
theorem pk_tn {n : Nat} (h : n < 2 ^ 32) : (nI n).toBitVec.toNat = n := Nat.mod_eq_of_lt h
theorem pk_and (x : Int32) {m : Int32} (k : Nat) (hm : m.toBitVec.toNat = 2 ^ k - 1) : x &&& m = nI (x.toBitVec.toNat % 2 ^ k) := by
  apply Int32.toBitVec_inj.mp
  apply BitVec.eq_of_toNat_eq
  rw [Int32.toBitVec_and, BitVec.toNat_and, hm, Nat.and_two_pow_sub_one_eq_mod]
  show _ = (BitVec.ofNat 32 _).toNat
  rw [BitVec.toNat_ofNat]
  exact (Nat.mod_eq_of_lt (Nat.lt_of_le_of_lt (Nat.mod_le _ _) x.toBitVec.isLt)).symm
theorem pk_andN {n : Nat} (h : n < 2 ^ 32) {m : Int32} (k : Nat) (hm : m.toBitVec.toNat = 2 ^ k - 1) : nI n &&& m = nI (n % 2 ^ k) := by
  rw [pk_and _ k hm, pk_tn h]
theorem pk_andE (x : Int32) {m : Int32} (k : Nat) (hm : m.toBitVec.toNat = 2 ^ k - 1) : ∃ j : Nat, j < 2 ^ k ∧ x &&& m = nI j := ⟨_, Nat.mod_lt _ (Nat.two_pow_pos k), pk_and x k hm⟩
theorem pk_andIn (x : Int32) {m : Int32} (k : Nat) (hm : m.toBitVec.toNat = 2 ^ k - 1) (hk : k ≤ 30) : vp_in (x &&& m) (2 ^ k) := by
  obtain ⟨j, hj, e⟩ := pk_andE x k hm
  rw [e]
  exact vp_in_nI hj (Nat.lt_of_le_of_lt (Nat.pow_le_pow_right (by decide) hk) (by decide))
theorem pk_shl (a s : Int32) (k : Nat) (hs : (s.toBitVec.smod 32).toNat = k) : (a <<< s).toBitVec.toNat = a.toBitVec.toNat * 2 ^ k % 2 ^ 32 := by
  show (a.toBitVec <<< (s.toBitVec.smod 32).toNat).toNat = _
  rw [hs, BitVec.toNat_shiftLeft, Nat.shiftLeft_eq]
theorem pk_shlN {n : Nat} (s : Int32) (k : Nat) (hs : (s.toBitVec.smod 32).toNat = k) (h : n * 2 ^ k < 2 ^ 32) : nI n <<< s = nI (n * 2 ^ k) := by
  apply Int32.toBitVec_inj.mp
  apply BitVec.eq_of_toNat_eq
  have hn : n < 2 ^ 32 := Nat.lt_of_le_of_lt (Nat.le_mul_of_pos_right n (Nat.two_pow_pos k)) h
  rw [pk_shl _ _ k hs, pk_tn hn, pk_tn h, Nat.mod_eq_of_lt h]
theorem pk_shr (a s : Int32) (k : Nat) (hs : (s.toBitVec.smod 32).toNat = k) : (a >>> s).toInt = a.toInt >>> k := by
  show (a.toBitVec.sshiftRight (s.toBitVec.smod 32).toNat).toInt = _
  rw [hs, BitVec.toInt_sshiftRight]
  rfl
theorem pk_shrN {n : Nat} (h : n < 2 ^ 31) (s : Int32) (k : Nat) (hs : (s.toBitVec.smod 32).toNat = k) : nI n >>> s = nI (n / 2 ^ k) := by
  apply Int32.toInt_inj.mp
  have h2 : n / 2 ^ k ≤ n := Nat.div_le_self _ _
  rw [pk_shr _ _ k hs, nI_toInt h, nI_toInt (by omega), Int.shiftRight_eq_div_pow]
  rfl
theorem pk_ushr (x s : Int32) (k : Nat) (hs : ((s.toUInt32 &&& Int32.toUInt32 31).toBitVec % 32).toNat = k) : (x.toUInt32 >>> (s.toUInt32 &&& Int32.toUInt32 31)).toInt32.toBitVec.toNat = x.toBitVec.toNat / 2 ^ k := by
  have e : (x.toUInt32 >>> (s.toUInt32 &&& Int32.toUInt32 31)).toInt32.toBitVec = x.toBitVec >>> k := by
    rw [← hs]
    exact UInt32.toBitVec_shiftRight _ _
  rw [e, BitVec.toNat_ushiftRight, Nat.shiftRight_eq_div_pow]
theorem pk_ushrN {n : Nat} (hn : n < 2 ^ 32) (s : Int32) (k : Nat) (hs : ((s.toUInt32 &&& Int32.toUInt32 31).toBitVec % 32).toNat = k) : ((nI n).toUInt32 >>> (s.toUInt32 &&& Int32.toUInt32 31)).toInt32 = nI (n / 2 ^ k) := by
  apply Int32.toBitVec_inj.mp
  apply BitVec.eq_of_toNat_eq
  rw [pk_ushr _ s k hs, pk_tn hn, pk_tn (Nat.lt_of_le_of_lt (Nat.div_le_self _ _) hn)]
def bt (x : Int32) (i : Nat) : Bool := x.toBitVec.getLsbD i
theorem b_ext {x y : Int32} (h : ∀ i, i < 32 → bt x i = bt y i) : x = y := Int32.toBitVec_inj.mp (BitVec.eq_of_getLsbD_eq (fun i hi => h i hi))
theorem b_or (x y : Int32) (i : Nat) : bt (x ||| y) i = (bt x i || bt y i) := by unfold bt; rw [Int32.toBitVec_or, BitVec.getLsbD_or]
theorem b_and (x y : Int32) (i : Nat) : bt (x &&& y) i = (bt x i && bt y i) := by unfold bt; rw [Int32.toBitVec_and, BitVec.getLsbD_and]
theorem b_xor (x y : Int32) (i : Nat) : bt (x ^^^ y) i = (bt x i ^^ bt y i) := by unfold bt; rw [Int32.toBitVec_xor, BitVec.getLsbD_xor]
theorem b_big {x : Int32} {i : Nat} (h : 32 ≤ i) : bt x i = false := BitVec.getLsbD_of_ge _ _ h
theorem b_255 (i : Nat) : bt 255 i = decide (i < 8) := by
  rcases Nat.lt_or_ge i 32 with h | h
  · exact (by decide +kernel : ∀ i, i < 32 → bt 255 i = decide (i < 8)) i h
  · rw [b_big h, decide_eq_false (by omega)]
theorem b_65535 (i : Nat) : bt 65535 i = decide (i < 16) := by
  rcases Nat.lt_or_ge i 32 with h | h
  · exact (by decide +kernel : ∀ i, i < 32 → bt 65535 i = decide (i < 16)) i h
  · rw [b_big h, decide_eq_false (by omega)]
theorem b_m1 : ∀ i, i < 32 → bt (-1) i = true := by decide +kernel
theorem b_0 (i : Nat) : bt 0 i = false := BitVec.getLsbD_zero
theorem s_l : ∀ n, n < 32 → ((nI n &&& 31).toBitVec.smod 32).toNat = n := by decide +kernel
theorem s_u : ∀ n, n < 32 → (((nI n).toUInt32 &&& Int32.toUInt32 31).toBitVec % 32).toNat = n := by decide +kernel
theorem b_shl (n : Nat) (hn : n < 32) (x : Int32) {i : Nat} (hi : i < 32) : bt (x <<< (nI n &&& 31)) i = (decide (n ≤ i) && bt x (i - n)) := by
  unfold bt
  rw [Int32.toBitVec_shiftLeft]
  show (x.toBitVec <<< ((nI n &&& 31).toBitVec.smod 32).toNat).getLsbD i = _
  rw [s_l n hn, BitVec.getLsbD_shiftLeft]
  rcases Nat.lt_or_ge i n with h | h
  · simp [h, Nat.not_le.mpr h]
  · simp [hi, h, Nat.not_lt.mpr h]
theorem b_ushr (n : Nat) (hn : n < 32) (x : Int32) (i : Nat) : bt ((x.toUInt32 >>> ((nI n).toUInt32 &&& Int32.toUInt32 31)).toInt32) i = bt x (n + i) := by
  show (x.toUInt32 >>> ((nI n).toUInt32 &&& Int32.toUInt32 31)).toBitVec.getLsbD i = x.toUInt32.toBitVec.getLsbD (n + i)
  rw [UInt32.toBitVec_shiftRight]
  show (x.toUInt32.toBitVec >>> (((nI n).toUInt32 &&& Int32.toUInt32 31).toBitVec % 32).toNat).getLsbD i = _
  rw [s_u n hn, BitVec.getLsbD_ushiftRight]
theorem b_sshr (n : Nat) (hn : n < 32) (x : Int32) {i : Nat} (hi : i < 32) : bt (x >>> (nI n &&& 31)) i = if n + i < 32 then bt x (n + i) else bt x 31 := by
  unfold bt
  rw [Int32.toBitVec_shiftRight]
  show (x.toBitVec.sshiftRight ((nI n &&& 31).toBitVec.smod 32).toNat).getLsbD i = _
  rw [s_l n hn, BitVec.getLsbD_sshiftRight, BitVec.msb_eq_getLsbD_last]
  simp [hi]
/-! ===== ints as images of integers ===== -/
def zi (a : Int) : Int32 := Int32.ofInt a
theorem zi_add (a b : Int) : zi a + zi b = zi (a + b) := (Int32.ofInt_add a b).symm
theorem zi_sub (a b : Int) : zi a - zi b = zi (a - b) := (Int32.ofInt_sub a b).symm
theorem zi_mul (a b : Int) : zi a * zi b = zi (a * b) := (Int32.ofInt_mul a b).symm
theorem zi_neg (a : Int) : - zi a = zi (-a) := (Int32.ofInt_neg a).symm
theorem zi_nI (n : Nat) : nI n = zi n := Int32.ofInt_eq_ofNat.symm
theorem zi_of (x : Int32) : x = zi x.toInt := (Int32.ofInt_toInt x).symm
theorem zi_0 : (0 : Int32) = zi 0 := by decide
theorem zi_1 : (1 : Int32) = zi 1 := by decide
theorem zi_m1 : (-1 : Int32) = zi (-1) := by decide
theorem zi_15 : (15 : Int32) = zi 15 := by decide
theorem zi_16 : (16 : Int32) = zi 16 := by decide
theorem zi_m16 : (-16 : Int32) = zi (-16) := by decide
theorem zi_32 : (32 : Int32) = zi 32 := by decide
theorem zi_m2 : (-2 : Int32) = zi (-2) := by decide
theorem zi_mm : (-1000000 : Int32) = zi (-1000000) := by decide
theorem zi_t {a : Int} (h1 : -2000000000 ≤ a) (h2 : a ≤ 2000000000) : (zi a).toInt = a := Int32.toInt_ofInt_of_le (by omega) (by omega)
theorem zi_le {a b : Int} (h1 : -2000000000 ≤ a) (h2 : a ≤ 2000000000) (h3 : -2000000000 ≤ b) (h4 : b ≤ 2000000000) : zi a ≤ zi b ↔ a ≤ b := by
  rw [Int32.le_iff_toInt_le, zi_t h1 h2, zi_t h3 h4]
theorem zi_lt {a b : Int} (h1 : -2000000000 ≤ a) (h2 : a ≤ 2000000000) (h3 : -2000000000 ≤ b) (h4 : b ≤ 2000000000) : zi a < zi b ↔ a < b := by
  rw [Int32.lt_iff_toInt_lt, zi_t h1 h2, zi_t h3 h4]
theorem zi_eq {a b : Int} (h1 : -2000000000 ≤ a) (h2 : a ≤ 2000000000) (h3 : -2000000000 ≤ b) (h4 : b ≤ 2000000000) : zi a = zi b ↔ a = b := by
  rw [← Int32.toInt_inj, zi_t h1 h2, zi_t h3 h4]
theorem zi_le0 {a : Int} (h1 : -2000000000 ≤ a) (h2 : a ≤ 2000000000) : zi a ≤ 0 ↔ a ≤ 0 := by
  rw [zi_0]; exact zi_le h1 h2 (by omega) (by omega)
theorem zi_lt0 {a : Int} (h1 : -2000000000 ≤ a) (h2 : a ≤ 2000000000) : zi a < 0 ↔ a < 0 := by
  rw [zi_0]; exact zi_lt h1 h2 (by omega) (by omega)
theorem zi_0lt {a : Int} (h1 : -2000000000 ≤ a) (h2 : a ≤ 2000000000) : 0 < zi a ↔ 0 < a := by
  rw [zi_0]; exact zi_lt (by omega) (by omega) h1 h2
theorem zi_eq0 {a : Int} (h1 : -2000000000 ≤ a) (h2 : a ≤ 2000000000) : zi a = 0 ↔ a = 0 := by
  rw [zi_0]; exact zi_eq h1 h2 (by omega) (by omega)
/-- zi against a free int -/
theorem zi_lex {a : Int} {x : Int32} (h1 : -2000000000 ≤ a) (h2 : a ≤ 2000000000) : zi a ≤ x ↔ a ≤ x.toInt := by
  rw [Int32.le_iff_toInt_le, zi_t h1 h2]
theorem zb_le {x y : Int32} {A B : Prop} (a b : Int) (hx : x = zi a) (hy : y = zi b) (f : a ≤ b → A) (g : b < a → B) (ha : -2000000000 ≤ a ∧ a ≤ 2000000000 := by omega) (hb : -2000000000 ≤ b ∧ b ≤ 2000000000 := by omega) : (x ≤ y → A) ∧ (¬ x ≤ y → B) := by
  subst hx hy
  rw [zi_le ha.1 ha.2 hb.1 hb.2]
  exact ⟨f, fun z => g (by omega)⟩
theorem zb_lt {x y : Int32} {A B : Prop} (a b : Int) (hx : x = zi a) (hy : y = zi b) (f : a < b → A) (g : b ≤ a → B) (ha : -2000000000 ≤ a ∧ a ≤ 2000000000 := by omega) (hb : -2000000000 ≤ b ∧ b ≤ 2000000000 := by omega) : (x < y → A) ∧ (¬ x < y → B) := by
  subst hx hy
  rw [zi_lt ha.1 ha.2 hb.1 hb.2]
  exact ⟨f, fun z => g (by omega)⟩
theorem zb_eq {x y : Int32} {A B : Prop} (a b : Int) (hx : x = zi a) (hy : y = zi b) (f : a = b → A) (g : a ≠ b → B) (ha : -2000000000 ≤ a ∧ a ≤ 2000000000 := by omega) (hb : -2000000000 ≤ b ∧ b ≤ 2000000000 := by omega) : (x = y → A) ∧ (¬ x = y → B) := by
  subst hx hy
  rw [zi_eq ha.1 ha.2 hb.1 hb.2]
  exact ⟨f, g⟩
/-- an arithmetic shift by one halves -/
theorem zi_shr1 {a : Int} (h1 : -2000000000 ≤ a) (h2 : a ≤ 2000000000) : zi a >>> ((1 : Int32) &&& 31) = zi (a / 2) := by
  apply Int32.toInt_inj.mp
  rw [pk_shr _ _ 1 (by decide), zi_t h1 h2, zi_t (by omega) (by omega), Int.shiftRight_eq_div_pow]
  rfl
theorem zi_iff {c A B : Prop} {d : Prop} (e : c ↔ d) (f : d → A) (g : ¬ d → B) : (c → A) ∧ (¬ c → B) := ⟨fun h => f (e.mp h), fun h => g (fun z => h (e.mpr z))⟩
end
section
/-! ===== the network over the integers ===== -/
def q_clip (t : Int) : Int := if 0 < t then t else 0
theorem q_clip_p {t : Int} (h : 0 < t) : q_clip t = t := if_pos h
theorem q_clip_n {t : Int} (h : t ≤ 0) : q_clip t = 0 := if_neg (by omega)
theorem q_clip_nn {t : Int} (h : 0 ≤ t) : q_clip t = t := by
  unfold q_clip; split <;> omega
theorem q_clip_b {t M : Int} (h1 : -M ≤ t) (h2 : t ≤ M) : -M ≤ q_clip t ∧ q_clip t ≤ M := by
  unfold q_clip; split <;> omega
def q_in0 (w : Nat → Int) (k : Nat) (x y : Int) : Int := w (2 * k) * x + w (2 * k + 1) * y + w (6 + k)
def q_out (w : Nat → Int) (k : Nat) (x y : Int) : Int := w (15 + k) + w (9 + 3 * k) * q_clip (q_in0 w 0 x y) + w (9 + 3 * k + 1) * q_clip (q_in0 w 1 x y) + w (9 + 3 * k + 2) * q_clip (q_in0 w 2 x y)
def q_res (w : Nat → Int) (x y : Int) : Int := w 19 + w 17 * q_clip (q_out w 0 x y) + w 18 * q_clip (q_out w 1 x y)
def q_sm (w : Nat → Int) (t : Nat) (x y : Int) : Int := if t < 3 then q_in0 w t x y else if t < 5 then q_out w (t - 3) x y else q_res w x y
theorem q_sm_i (w : Nat → Int) {t : Nat} (h : t < 3) (x y : Int) : q_sm w t x y = q_in0 w t x y := if_pos h
theorem q_sm_o (w : Nat → Int) {t : Nat} (h : t < 2) (x y : Int) : q_sm w (3 + t) x y = q_out w t x y := by
  unfold q_sm
  rw [if_neg (by omega), if_pos (by omega), Nat.add_sub_cancel_left]
theorem q_sm_5 (w : Nat → Int) (x y : Int) : q_sm w 5 x y = q_res w x y := rfl
/-- the places of offsets -/
def q_of (j : Nat) : Prop := (6 ≤ j ∧ j ≤ 8) ∨ j = 15 ∨ j = 16 ∨ j = 19
def q_ok (w : Nat → Int) : Prop := ∀ j, j < 20 → (-50 ≤ w j ∧ w j ≤ 50) ∧ (¬ q_of j → -5 ≤ w j ∧ w j ≤ 5)
theorem q_ok_o {w : Nat → Int} (h : q_ok w) (j : Nat) (hj : j < 20) : -50 ≤ w j ∧ w j ≤ 50 := (h j hj).1
theorem q_ok_f {w : Nat → Int} (h : q_ok w) (j : Nat) (hj : j < 20) (hn : ¬ q_of j) : -5 ≤ w j ∧ w j ≤ 5 := (h j hj).2 hn
theorem q_mulb {F M f a : Int} (h1 : -F ≤ f) (h2 : f ≤ F) (h3 : -M ≤ a) (h4 : a ≤ M) : -(F * M) ≤ f * a ∧ f * a ≤ F * M := by
  have e1 := Int.mul_nonneg (show 0 ≤ F - f by omega) (show 0 ≤ M + a by omega)
  have e2 := Int.mul_nonneg (show 0 ≤ F + f by omega) (show 0 ≤ M - a by omega)
  have e3 := Int.mul_nonneg (show 0 ≤ F - f by omega) (show 0 ≤ M - a by omega)
  have e4 := Int.mul_nonneg (show 0 ≤ F + f by omega) (show 0 ≤ M + a by omega)
  simp only [Int.sub_mul, Int.add_mul, Int.mul_sub, Int.mul_add] at e1 e2 e3 e4
  omega
theorem q_in0_b {w : Nat → Int} (h : q_ok w) {k : Nat} (hk : k < 3) {x y : Int} (hx : -16 ≤ x ∧ x ≤ 16) (hy : -16 ≤ y ∧ y ≤ 16) : -210 ≤ q_in0 w k x y ∧ q_in0 w k x y ≤ 210 := by
  have a := q_ok_f h (2 * k) (by omega) (by unfold q_of; omega)
  have b := q_ok_f h (2 * k + 1) (by omega) (by unfold q_of; omega)
  have c := q_ok_o h (6 + k) (by omega)
  have d := q_mulb a.1 a.2 hx.1 hx.2
  have e := q_mulb b.1 b.2 hy.1 hy.2
  unfold q_in0
  omega
theorem q_out_b {w : Nat → Int} (h : q_ok w) {k : Nat} (hk : k < 2) {x y : Int} (hx : -16 ≤ x ∧ x ≤ 16) (hy : -16 ≤ y ∧ y ≤ 16) : -3200 ≤ q_out w k x y ∧ q_out w k x y ≤ 3200 := by
  have a0 := q_ok_f h (9 + 3 * k) (by omega) (by unfold q_of; omega)
  have a1 := q_ok_f h (9 + 3 * k + 1) (by omega) (by unfold q_of; omega)
  have a2 := q_ok_f h (9 + 3 * k + 2) (by omega) (by unfold q_of; omega)
  have c := q_ok_o h (15 + k) (by omega)
  have b0 := q_in0_b h (k := 0) (by omega) hx hy
  have b1 := q_in0_b h (k := 1) (by omega) hx hy
  have b2 := q_in0_b h (k := 2) (by omega) hx hy
  have c0 := q_clip_b b0.1 b0.2
  have c1 := q_clip_b b1.1 b1.2
  have c2 := q_clip_b b2.1 b2.2
  have d0 := q_mulb a0.1 a0.2 c0.1 c0.2
  have d1 := q_mulb a1.1 a1.2 c1.1 c1.2
  have d2 := q_mulb a2.1 a2.2 c2.1 c2.2
  unfold q_out
  omega
theorem q_res_b {w : Nat → Int} (h : q_ok w) {x y : Int} (hx : -16 ≤ x ∧ x ≤ 16) (hy : -16 ≤ y ∧ y ≤ 16) : -32050 ≤ q_res w x y ∧ q_res w x y ≤ 32050 := by
  have a0 := q_ok_f h 17 (by omega) (by unfold q_of; omega)
  have a1 := q_ok_f h 18 (by omega) (by unfold q_of; omega)
  have c := q_ok_o h 19 (by omega)
  have b0 := q_out_b h (k := 0) (by omega) hx hy
  have b1 := q_out_b h (k := 1) (by omega) hx hy
  have c0 := q_clip_b b0.1 b0.2
  have c1 := q_clip_b b1.1 b1.2
  have d0 := q_mulb a0.1 a0.2 c0.1 c0.2
  have d1 := q_mulb a1.1 a1.2 c1.1 c1.2
  unfold q_res
  omega
theorem q_sm_b {w : Nat → Int} (h : q_ok w) (t : Nat) {x y : Int} (hx : -16 ≤ x ∧ x ≤ 16) (hy : -16 ≤ y ∧ y ≤ 16) : -32050 ≤ q_sm w t x y ∧ q_sm w t x y ≤ 32050 := by
  unfold q_sm
  split
  · have := q_in0_b h (k := t) (by omega) hx hy
    omega
  · split
    · have := q_out_b h (k := t - 3) (by omega) hx hy
      omega
    · exact q_res_b h hx hy
/-! ===== rows of ranges ===== -/
def q_in (l0 h0 l1 h1 x y : Int) : Prop := l0 ≤ x ∧ x ≤ h0 ∧ l1 ≤ y ∧ y ≤ h1
def q_gb (l0 h0 l1 h1 : Int) : Prop := -16 ≤ l0 ∧ l0 ≤ h0 ∧ h0 ≤ 15 ∧ -16 ≤ l1 ∧ l1 ≤ h1 ∧ h1 ≤ 15
/-- a finished row: its range holds the sum, and is exact if it is linear or the box a point -/
def q_fin (l0 h0 l1 h1 : Int) (g : Int → Int → Int) (MA MC ML : Int) (lo hi f0 f1 re li : Int32) : Prop :=
  ∃ A B C L H : Int, (lo = zi L ∧ hi = zi H ∧ f0 = zi A ∧ f1 = zi B ∧ re = zi C) ∧
    (-MA ≤ A ∧ A ≤ MA ∧ -MA ≤ B ∧ B ≤ MA ∧ -MC ≤ C ∧ C ≤ MC ∧ -ML ≤ L ∧ L ≤ ML ∧ -ML ≤ H ∧ H ≤ ML) ∧
    (∀ x y, q_in l0 h0 l1 h1 x y → L ≤ g x y ∧ g x y ≤ H) ∧
    (¬ li = 0 → (∀ x y, q_in l0 h0 l1 h1 x y → g x y = A * x + B * y + C) ∧ (∃ x y, q_in l0 h0 l1 h1 x y ∧ g x y = L) ∧ (∃ x y, q_in l0 h0 l1 h1 x y ∧ g x y = H)) ∧
    (l0 = h0 → l1 = h1 → L = H)
/-- a row at work: a linear part, and the range of what is left -/
def q_par (l0 h0 l1 h1 : Int) (g : Int → Int → Int) (MA MC ML : Int) (lo hi f0 f1 re li : Int32) : Prop :=
  ∃ A B C L H : Int, (lo = zi L ∧ hi = zi H ∧ f0 = zi A ∧ f1 = zi B ∧ re = zi C) ∧
    (-MA ≤ A ∧ A ≤ MA ∧ -MA ≤ B ∧ B ≤ MA ∧ -MC ≤ C ∧ C ≤ MC ∧ -ML ≤ L ∧ L ≤ ML ∧ -ML ≤ H ∧ H ≤ ML) ∧
    (∀ x y, q_in l0 h0 l1 h1 x y → L ≤ g x y - (A * x + B * y + C) ∧ g x y - (A * x + B * y + C) ≤ H) ∧
    (¬ li = 0 → L = 0 ∧ H = 0) ∧
    (l0 = h0 → l1 = h1 → L = H)
/-- least and greatest of a * x on an interval -/
def q_mn (a l h : Int) : Int := if 0 < a then a * l else a * h
def q_mx (a l h : Int) : Int := if 0 < a then a * h else a * l
theorem q_mn_le {a l h x : Int} (h1 : l ≤ x) (h2 : x ≤ h) : q_mn a l h ≤ a * x ∧ a * x ≤ q_mx a l h := by
  unfold q_mn q_mx
  split
  · exact ⟨Int.mul_le_mul_of_nonneg_left h1 (by omega), Int.mul_le_mul_of_nonneg_left h2 (by omega)⟩
  · exact ⟨Int.mul_le_mul_of_nonpos_left (by omega) h2, Int.mul_le_mul_of_nonpos_left (by omega) h1⟩
theorem q_mn_at (a : Int) {l h : Int} (hh : l ≤ h) : ∃ x, l ≤ x ∧ x ≤ h ∧ a * x = q_mn a l h := by
  unfold q_mn
  split
  · exact ⟨l, by omega, hh, rfl⟩
  · exact ⟨h, hh, by omega, rfl⟩
theorem q_mx_at (a : Int) {l h : Int} (hh : l ≤ h) : ∃ x, l ≤ x ∧ x ≤ h ∧ a * x = q_mx a l h := by
  unfold q_mx
  split
  · exact ⟨h, hh, by omega, rfl⟩
  · exact ⟨l, by omega, hh, rfl⟩
theorem q_mm_pt (a l : Int) : q_mn a l l = q_mx a l l := by
  unfold q_mn q_mx
  split <;> rfl
theorem q_mm_b {M a l h : Int} (h1 : -M ≤ a) (h2 : a ≤ M) (h3 : -16 ≤ l) (h4 : l ≤ h) (h5 : h ≤ 15) : -(M * 16) ≤ q_mn a l h ∧ q_mn a l h ≤ M * 16 ∧ -(M * 16) ≤ q_mx a l h ∧ q_mx a l h ≤ M * 16 := by
  have e1 := q_mulb (M := 16) h1 h2 h3 (show l ≤ 16 by omega)
  have e2 := q_mulb (M := 16) h1 h2 (show -16 ≤ h by omega) (show h ≤ 16 by omega)
  unfold q_mn q_mx
  split <;> omega
/-- a linear row of its own, its range reckoned -/
theorem q_fin_lin {l0 h0 l1 h1 : Int} (gb : q_gb l0 h0 l1 h1) {A B C MA MC : Int} {g : Int → Int → Int} (bA : -MA ≤ A ∧ A ≤ MA) (bB : -MA ≤ B ∧ B ≤ MA) (bC : -MC ≤ C ∧ C ≤ MC) (hg : ∀ x y, g x y = A * x + B * y + C) (li : Int32) :
    q_fin l0 h0 l1 h1 g MA MC (MC + 32 * MA) (zi (C + q_mn A l0 h0 + q_mn B l1 h1)) (zi (C + q_mx A l0 h0 + q_mx B l1 h1)) (zi A) (zi B) (zi C) li := by
  unfold q_gb at gb
  have e1 := q_mm_b bA.1 bA.2 gb.1 gb.2.1 gb.2.2.1
  have e2 := q_mm_b bB.1 bB.2 gb.2.2.2.1 gb.2.2.2.2.1 gb.2.2.2.2.2
  refine ⟨A, B, C, _, _, ⟨rfl, rfl, rfl, rfl, rfl⟩, by omega, ?_, ?_, ?_⟩
  · intro x y h
    have f1 := q_mn_le (a := A) h.1 h.2.1
    have f2 := q_mn_le (a := B) h.2.2.1 h.2.2.2
    rw [hg]
    omega
  · intro _
    refine ⟨fun x y _ => hg x y, ?_, ?_⟩
    · obtain ⟨x, hx1, hx2, ex⟩ := q_mn_at A gb.2.1
      obtain ⟨y, hy1, hy2, ey⟩ := q_mn_at B gb.2.2.2.2.1
      refine ⟨x, y, ⟨hx1, hx2, hy1, hy2⟩, ?_⟩
      rw [hg]
      omega
    · obtain ⟨x, hx1, hx2, ex⟩ := q_mx_at A gb.2.1
      obtain ⟨y, hy1, hy2, ey⟩ := q_mx_at B gb.2.2.2.2.1
      refine ⟨x, y, ⟨hx1, hx2, hy1, hy2⟩, ?_⟩
      rw [hg]
      omega
  · intro z0 z1
    subst z0 z1
    rw [q_mm_pt, q_mm_pt]
/-- the finish of a row at work -/
theorem q_fin_par {l0 h0 l1 h1 : Int} (gb : q_gb l0 h0 l1 h1) {A B C L H MA MC ML : Int} {g : Int → Int → Int} {li : Int32}
    (b : -MA ≤ A ∧ A ≤ MA ∧ -MA ≤ B ∧ B ≤ MA ∧ -MC ≤ C ∧ C ≤ MC ∧ -ML ≤ L ∧ L ≤ ML ∧ -ML ≤ H ∧ H ≤ ML)
    (hr : ∀ x y, q_in l0 h0 l1 h1 x y → L ≤ g x y - (A * x + B * y + C) ∧ g x y - (A * x + B * y + C) ≤ H)
    (hl : ¬ li = 0 → L = 0 ∧ H = 0) (hp : l0 = h0 → l1 = h1 → L = H) :
    q_fin l0 h0 l1 h1 g MA MC (ML + MC + 32 * MA) (zi (C + q_mn A l0 h0 + q_mn B l1 h1 + L)) (zi (C + q_mx A l0 h0 + q_mx B l1 h1 + H)) (zi A) (zi B) (zi C) li := by
  unfold q_gb at gb
  have e1 := q_mm_b b.1 b.2.1 gb.1 gb.2.1 gb.2.2.1
  have e2 := q_mm_b b.2.2.1 b.2.2.2.1 gb.2.2.2.1 gb.2.2.2.2.1 gb.2.2.2.2.2
  refine ⟨A, B, C, _, _, ⟨rfl, rfl, rfl, rfl, rfl⟩, by omega, ?_, ?_, ?_⟩
  · intro x y h
    have f1 := q_mn_le (a := A) h.1 h.2.1
    have f2 := q_mn_le (a := B) h.2.2.1 h.2.2.2
    have f3 := hr x y h
    omega
  · intro z
    obtain ⟨zL, zH⟩ := hl z
    subst zL zH
    refine ⟨fun x y h => ?_, ?_, ?_⟩
    · have f3 := hr x y h
      omega
    · obtain ⟨x, hx1, hx2, ex⟩ := q_mn_at A gb.2.1
      obtain ⟨y, hy1, hy2, ey⟩ := q_mn_at B gb.2.2.2.2.1
      refine ⟨x, y, ⟨hx1, hx2, hy1, hy2⟩, ?_⟩
      have f3 := hr x y ⟨hx1, hx2, hy1, hy2⟩
      omega
    · obtain ⟨x, hx1, hx2, ex⟩ := q_mx_at A gb.2.1
      obtain ⟨y, hy1, hy2, ey⟩ := q_mx_at B gb.2.2.2.2.1
      refine ⟨x, y, ⟨hx1, hx2, hy1, hy2⟩, ?_⟩
      have f3 := hr x y ⟨hx1, hx2, hy1, hy2⟩
      omega
  · intro z0 z1
    have e := hp z0 z1
    subst z0 z1
    rw [q_mm_pt, q_mm_pt, e]
/-- a unit that never counts -/
theorem q_par_off {l0 h0 l1 h1 MA MC ML f : Int} {g s : Int → Int → Int} {lo hi f0 f1 re li : Int32} (hP : q_par l0 h0 l1 h1 g MA MC ML lo hi f0 f1 re li)
    (hz : ∀ x y, q_in l0 h0 l1 h1 x y → f * q_clip (s x y) = 0) {MA' MC' ML' : Int} (hA : MA ≤ MA') (hC : MC ≤ MC') (hL : ML ≤ ML') :
    q_par l0 h0 l1 h1 (fun x y => g x y + f * q_clip (s x y)) MA' MC' ML' lo hi f0 f1 re li := by
  obtain ⟨A, B, C, L, H, e, b, hr, hl, hp⟩ := hP
  refine ⟨A, B, C, L, H, e, by omega, ?_, hl, hp⟩
  intro x y h
  have h1 := hr x y h
  have h2 := hz x y h
  show L ≤ g x y + f * q_clip (s x y) - (A * x + B * y + C) ∧ g x y + f * q_clip (s x y) - (A * x + B * y + C) ≤ H
  omega
/-- a linear unit that is never negative enters as it is -/
theorem q_par_lin {l0 h0 l1 h1 A B C L H MA MC ML f A' B' C' MS MR : Int} {g s : Int → Int → Int} {li : Int32}
    (b : -MA ≤ A ∧ A ≤ MA ∧ -MA ≤ B ∧ B ≤ MA ∧ -MC ≤ C ∧ C ≤ MC ∧ -ML ≤ L ∧ L ≤ ML ∧ -ML ≤ H ∧ H ≤ ML)
    (hr : ∀ x y, q_in l0 h0 l1 h1 x y → L ≤ g x y - (A * x + B * y + C) ∧ g x y - (A * x + B * y + C) ≤ H)
    (hl : ¬ li = 0 → L = 0 ∧ H = 0) (hp : l0 = h0 → l1 = h1 → L = H)
    (bf : -5 ≤ f ∧ f ≤ 5) (bs : -MS ≤ A' ∧ A' ≤ MS ∧ -MS ≤ B' ∧ B' ≤ MS ∧ -MR ≤ C' ∧ C' ≤ MR)
    (hs : ∀ x y, q_in l0 h0 l1 h1 x y → s x y = A' * x + B' * y + C') (h0s : ∀ x y, q_in l0 h0 l1 h1 x y → 0 ≤ s x y) {ML' : Int} (hL : ML ≤ ML') :
    q_par l0 h0 l1 h1 (fun x y => g x y + f * q_clip (s x y)) (MA + 5 * MS) (MC + 5 * MR) ML' (zi L) (zi H) (zi (A + f * A')) (zi (B + f * B')) (zi (C + f * C')) li := by
  have e1 := q_mulb bf.1 bf.2 bs.1 bs.2.1
  have e2 := q_mulb bf.1 bf.2 bs.2.2.1 bs.2.2.2.1
  have e3 := q_mulb bf.1 bf.2 bs.2.2.2.2.1 bs.2.2.2.2.2
  refine ⟨A + f * A', B + f * B', C + f * C', L, H, ⟨rfl, rfl, rfl, rfl, rfl⟩, by omega, ?_, hl, hp⟩
  intro x y h
  have h1 := hr x y h
  have h2 : f * q_clip (s x y) = f * A' * x + f * B' * y + f * C' := by
    rw [q_clip_nn (h0s x y h), hs x y h, Int.mul_add, Int.mul_add, Int.mul_assoc, Int.mul_assoc]
  have h3 : (A + f * A') * x = A * x + f * A' * x := Int.add_mul _ _ _
  have h4 : (B + f * B') * y = B * y + f * B' * y := Int.add_mul _ _ _
  show L ≤ g x y + f * q_clip (s x y) - ((A + f * A') * x + (B + f * B') * y + (C + f * C')) ∧ g x y + f * q_clip (s x y) - ((A + f * A') * x + (B + f * B') * y + (C + f * C')) ≤ H
  rw [h2, h3, h4]
  omega
/-- any other unit enters with its range -/
theorem q_par_mix {l0 h0 l1 h1 A B C L H MA MC ML f L' H' MT : Int} {g s : Int → Int → Int}
    (b : -MA ≤ A ∧ A ≤ MA ∧ -MA ≤ B ∧ B ≤ MA ∧ -MC ≤ C ∧ C ≤ MC ∧ -ML ≤ L ∧ L ≤ ML ∧ -ML ≤ H ∧ H ≤ ML)
    (hr : ∀ x y, q_in l0 h0 l1 h1 x y → L ≤ g x y - (A * x + B * y + C) ∧ g x y - (A * x + B * y + C) ≤ H)
    (hp : l0 = h0 → l1 = h1 → L = H)
    (bf : -5 ≤ f ∧ f ≤ 5) (bs : -MT ≤ L' ∧ L' ≤ MT ∧ -MT ≤ H' ∧ H' ≤ MT) (h0s : 0 < H')
    (hs : ∀ x y, q_in l0 h0 l1 h1 x y → L' ≤ s x y ∧ s x y ≤ H') (hps : l0 = h0 → l1 = h1 → L' = H') {MA' MC' : Int} (hA : MA ≤ MA') (hC : MC ≤ MC') :
    q_par l0 h0 l1 h1 (fun x y => g x y + f * q_clip (s x y)) MA' MC' (ML + 5 * MT) (zi (L + q_mn f (q_clip L') H')) (zi (H + q_mx f (q_clip L') H')) (zi A) (zi B) (zi C) 0 := by
  have c := q_clip_b bs.1 bs.2.1
  have e1 := q_mulb bf.1 bf.2 c.1 c.2
  have e2 := q_mulb bf.1 bf.2 bs.2.2.1 bs.2.2.2
  have e3 : -(5 * MT) ≤ q_mn f (q_clip L') H' ∧ q_mn f (q_clip L') H' ≤ 5 * MT ∧ -(5 * MT) ≤ q_mx f (q_clip L') H' ∧ q_mx f (q_clip L') H' ≤ 5 * MT := by
    unfold q_mn q_mx
    split <;> omega
  refine ⟨A, B, C, _, _, ⟨rfl, rfl, rfl, rfl, rfl⟩, by omega, ?_, fun z => absurd rfl z, ?_⟩
  · intro x y h
    have h1 := hr x y h
    have h2 := hs x y h
    have h3 : q_clip L' ≤ q_clip (s x y) ∧ q_clip (s x y) ≤ H' := by
      unfold q_clip
      split <;> split <;> omega
    have h4 := q_mn_le (a := f) h3.1 h3.2
    show _ ≤ g x y + f * q_clip (s x y) - (A * x + B * y + C) ∧ g x y + f * q_clip (s x y) - (A * x + B * y + C) ≤ _
    omega
  · intro z0 z1
    have e := hp z0 z1
    have e' := hps z0 z1
    subst e e'
    rw [q_clip_p h0s, q_mm_pt]
theorem q_par_0 (l0 h0 l1 h1 c : Int) (bc : -50 ≤ c ∧ c ≤ 50) (li : Int32) : q_par l0 h0 l1 h1 (fun _ _ => c) 0 50 0 0 0 0 0 (zi c) li := by
  refine ⟨0, 0, c, 0, 0, ⟨zi_0, zi_0, zi_0, zi_0, rfl⟩, by omega, ?_, fun _ => ⟨rfl, rfl⟩, fun _ _ => rfl⟩
  intro x y _
  show 0 ≤ c - (0 * x + 0 * y + c) ∧ c - (0 * x + 0 * y + c) ≤ 0
  omega
theorem q_fin_c {l0 h0 l1 h1 MA MC ML : Int} {g g' : Int → Int → Int} {lo hi f0 f1 re li : Int32} (h : q_fin l0 h0 l1 h1 g MA MC ML lo hi f0 f1 re li) (e : ∀ x y, g x y = g' x y) : q_fin l0 h0 l1 h1 g' MA MC ML lo hi f0 f1 re li := by
  have e' : g = g' := funext fun x => funext fun y => e x y
  rw [← e']
  exact h
/-- what a finished row tells -/
def q_row (l0 h0 l1 h1 : Int) (g : Int → Int → Int) (lo hi li : Int32) : Prop :=
  ∃ L H : Int, lo = zi L ∧ hi = zi H ∧ (-100000 ≤ L ∧ L ≤ 100000 ∧ -100000 ≤ H ∧ H ≤ 100000) ∧
    (∀ x y, q_in l0 h0 l1 h1 x y → L ≤ g x y ∧ g x y ≤ H) ∧
    (¬ li = 0 → (∃ x y, q_in l0 h0 l1 h1 x y ∧ g x y = L) ∧ (∃ x y, q_in l0 h0 l1 h1 x y ∧ g x y = H)) ∧
    (l0 = h0 → l1 = h1 → L = H)
theorem q_row_of {l0 h0 l1 h1 MA MC ML : Int} {g : Int → Int → Int} {lo hi f0 f1 re li : Int32} (h : q_fin l0 h0 l1 h1 g MA MC ML lo hi f0 f1 re li) (hM : ML ≤ 100000) : q_row l0 h0 l1 h1 g lo hi li := by
  obtain ⟨A, B, C, L, H, e, b, hr, hl, hp⟩ := h
  exact ⟨L, H, e.1, e.2.1, by omega, hr, fun z => (hl z).2, hp⟩
end
section
/-! ===== the component's ranges ===== -/
theorem xb_1 : vp_nar .boolean 1 = 1 := rfl
theorem xb_0 : vp_nar .boolean 0 = 0 := rfl
theorem xb_10 : ¬ (1 : Int32) = 0 := by decide
theorem q_mn_p {a l h : Int} (z : 0 < a) : q_mn a l h = a * l := if_pos z
theorem q_mn_n {a l h : Int} (z : a ≤ 0) : q_mn a l h = a * h := if_neg (by omega)
theorem q_mx_p {a l h : Int} (z : 0 < a) : q_mx a l h = a * h := if_pos z
theorem q_mx_n {a l h : Int} (z : a ≤ 0) : q_mx a l h = a * l := if_neg (by omega)
theorem xr_exact {post : SX → Prop} {fw fb : Int32} {nm un lo hi f0 f1 re li le ri bo tp : Nat → Int32} {k : Nat} (hk : k < 6) {A B C l0 h0 l1 h1 : Int} (eA : f0 k = zi A) (eB : f1 k = zi B) (eC : re k = zi C) (bA : -1000000 ≤ A ∧ A ≤ 1000000) (bB : -1000000 ≤ B ∧ B ≤ 1000000)
    (hp : post (fw, fb, nm, un, upd lo k (zi (C + q_mn A l0 h0 + q_mn B l1 h1)), upd hi k (zi (C + q_mx A l0 h0 + q_mx B l1 h1)), f0, f1, re, li, le, ri, bo, tp)) :
    wpX_exact post (fw, fb, nm, un, lo, hi, f0, f1, re, li, le, ri, bo, tp) (nI k) (zi l0) (zi h0) (zi l1) (zi h1) := by
  have hin : vp_in (nI k) 6 := vp_in_nI hk (by decide)
  have hc : (nI k).toNatClampNeg = k := nI_clamp (by omega)
  have cA : zi A ≤ 0 ↔ A ≤ 0 := zi_le0 (by omega) (by omega)
  have cB : zi B ≤ 0 ↔ B ≤ 0 := zi_le0 (by omega) (by omega)
  unfold wpX_exact
  dsimp only
  refine ⟨hin, nm_e ⟨hin, nm_e ⟨hin, ?_⟩⟩⟩
  simp only [wX_exact_43, wX_exact_62, wX_exact_91, hc, eA, eB, eC, zi_mul, zi_add]
  rcases Int.lt_or_le 0 A with a | a
  · have a' : ¬ zi A ≤ 0 := fun z => absurd (cA.mp z) (by omega)
    rw [q_mn_p a, q_mx_p a] at hp
    rcases Int.lt_or_le 0 B with b | b
    · have b' : ¬ zi B ≤ 0 := fun z => absurd (cB.mp z) (by omega)
      rw [q_mn_p b, q_mx_p b] at hp
      exact br_f a' (br_f b' ⟨hin, nm_e ⟨hin, br_f a' (br_f b' ⟨hin, nm_e hp⟩)⟩⟩)
    · have b' : zi B ≤ 0 := cB.mpr b
      rw [q_mn_n b, q_mx_n b] at hp
      exact br_f a' (br_t b' ⟨hin, nm_e ⟨hin, br_f a' (br_t b' ⟨hin, nm_e hp⟩)⟩⟩)
  · have a' : zi A ≤ 0 := cA.mpr a
    rw [q_mn_n a, q_mx_n a] at hp
    rcases Int.lt_or_le 0 B with b | b
    · have b' : ¬ zi B ≤ 0 := fun z => absurd (cB.mp z) (by omega)
      rw [q_mn_p b, q_mx_p b] at hp
      exact br_t a' (br_f b' ⟨hin, nm_e ⟨hin, br_t a' (br_f b' ⟨hin, nm_e hp⟩)⟩⟩)
    · have b' : zi B ≤ 0 := cB.mpr b
      rw [q_mn_n b, q_mx_n b] at hp
      exact br_t a' (br_t b' ⟨hin, nm_e ⟨hin, br_t a' (br_t b' ⟨hin, nm_e hp⟩)⟩⟩)
/-- all rows but k stay -/
def xr_ag (k : Nat) (lo hi f0 f1 re li lo' hi' f0' f1' re' li' : Nat → Int32) : Prop :=
  ∀ j, j ≠ k → lo' j = lo j ∧ hi' j = hi j ∧ f0' j = f0 j ∧ f1' j = f1 j ∧ re' j = re j ∧ li' j = li j
theorem xr_begin {post : SX → Prop} {fw fb : Int32} {nm un lo hi f0 f1 re li le ri bo tp : Nat → Int32} {k : Nat} (hk : k < 6) {c l0 h0 l1 h1 : Int} (bc : -50 ≤ c ∧ c ≤ 50)
    (hp : ∀ lo' hi' f0' f1' re' li' : Nat → Int32, xr_ag k lo hi f0 f1 re li lo' hi' f0' f1' re' li' → q_par l0 h0 l1 h1 (fun _ _ => c) 0 50 0 (lo' k) (hi' k) (f0' k) (f1' k) (re' k) (li' k) → post (fw, fb, nm, un, lo', hi', f0', f1', re', li', le, ri, bo, tp)) :
    wpX_begin post (fw, fb, nm, un, lo, hi, f0, f1, re, li, le, ri, bo, tp) (nI k) (zi c) := by
  have hin : vp_in (nI k) 6 := vp_in_nI hk (by decide)
  have hc : (nI k).toNatClampNeg = k := nI_clamp (by omega)
  unfold wpX_begin
  dsimp only
  rw [hc]
  refine ⟨hin, nm_e ⟨hin, nm_e ⟨hin, nm_e ⟨hin, nm_e ⟨hin, nm_e ⟨hin, nm_e (hp _ _ _ _ _ _ ?_ ?_)⟩⟩⟩⟩⟩⟩
  · intro j hj
    simp only [upd, if_neg hj, and_self]
  · simp only [upd, if_pos]
    exact q_par_0 l0 h0 l1 h1 c bc _
theorem xr_finish {post : SX → Prop} {fw fb : Int32} {nm un lo hi f0 f1 re li le ri bo tp : Nat → Int32} {k : Nat} (hk : k < 6) {l0 h0 l1 h1 MA MC ML : Int} {g : Int → Int → Int} (gb : q_gb l0 h0 l1 h1)
    (hP : q_par l0 h0 l1 h1 g MA MC ML (lo k) (hi k) (f0 k) (f1 k) (re k) (li k)) (bM : MA ≤ 1000000)
    (hp : ∀ lo' hi' f0' f1' re' li' : Nat → Int32, xr_ag k lo hi f0 f1 re li lo' hi' f0' f1' re' li' → q_fin l0 h0 l1 h1 g MA MC (ML + MC + 32 * MA) (lo' k) (hi' k) (f0' k) (f1' k) (re' k) (li' k) → post (fw, fb, nm, un, lo', hi', f0', f1', re', li', le, ri, bo, tp)) :
    wpX_finish post (fw, fb, nm, un, lo, hi, f0, f1, re, li, le, ri, bo, tp) (nI k) (zi l0) (zi h0) (zi l1) (zi h1) := by
  have hin : vp_in (nI k) 6 := vp_in_nI hk (by decide)
  have hc : (nI k).toNatClampNeg = k := nI_clamp (by omega)
  obtain ⟨A, B, C, L, H, ⟨eL, eH, eA, eB, eC⟩, b, hr, hl, hpt⟩ := hP
  unfold wpX_finish
  dsimp only
  refine ⟨hin, nm_e ⟨hin, nm_e ?_⟩⟩
  refine xr_exact hk eA eB eC (by omega) (by omega) ?_
  dsimp only
  rw [hc, eL, eH]
  refine ⟨hin, hin, nm_e ⟨hin, hin, nm_e (hp _ _ _ _ _ _ ?_ ?_)⟩⟩
  · intro j hj
    simp only [upd, if_neg hj, and_self]
  · simp only [upd, if_pos, zi_add, eA, eB, eC]
    exact q_fin_par gb b hr hl hpt
theorem xr_bring {post : SX → Prop} {fw fb : Int32} {nm un lo hi f0 f1 re li le ri bo tp : Nat → Int32} {k i : Nat} (hk : k < 6) (hi6 : i < 6) {l0 h0 l1 h1 MA MC ML MS MR MT f : Int} {g s : Int → Int → Int}
    (hP : q_par l0 h0 l1 h1 g MA MC ML (lo k) (hi k) (f0 k) (f1 k) (re k) (li k)) (hF : q_fin l0 h0 l1 h1 s MS MR MT (lo i) (hi i) (f0 i) (f1 i) (re i) (li i)) (bf : -5 ≤ f ∧ f ≤ 5)
    (bM : 0 ≤ MS ∧ 0 ≤ MR ∧ 0 ≤ MT ∧ MT ≤ 1000000)
    (hp : ∀ lo' hi' f0' f1' re' li' : Nat → Int32, xr_ag k lo hi f0 f1 re li lo' hi' f0' f1' re' li' → q_par l0 h0 l1 h1 (fun x y => g x y + f * q_clip (s x y)) (MA + 5 * MS) (MC + 5 * MR) (ML + 5 * MT) (lo' k) (hi' k) (f0' k) (f1' k) (re' k) (li' k) → post (fw, fb, nm, un, lo', hi', f0', f1', re', li', le, ri, bo, tp)) :
    wpX_bring post (fw, fb, nm, un, lo, hi, f0, f1, re, li, le, ri, bo, tp) (nI k) (nI i) (zi f) := by
  have hin : vp_in (nI k) 6 := vp_in_nI hk (by decide)
  have hc : (nI k).toNatClampNeg = k := nI_clamp (by omega)
  have hin' : vp_in (nI i) 6 := vp_in_nI hi6 (by decide)
  have hc' : (nI i).toNatClampNeg = i := nI_clamp (by omega)
  have hid : xr_ag k lo hi f0 f1 re li lo hi f0 f1 re li := fun j _ => ⟨rfl, rfl, rfl, rfl, rfl, rfl⟩
  obtain ⟨A', B', C', L', H', ⟨eL', eH', eA', eB', eC'⟩, b', hr', hl', hpt'⟩ := hF
  have c0 : zi f = 0 ↔ f = 0 := zi_eq0 (by omega) (by omega)
  have cf : zi f ≤ 0 ↔ f ≤ 0 := zi_le0 (by omega) (by omega)
  have cH : 0 < zi H' ↔ 0 < H' := zi_0lt (by omega) (by omega)
  have cL : zi L' < 0 ↔ L' < 0 := zi_lt0 (by omega) (by omega)
  have cl : zi L' ≤ 0 ↔ L' ≤ 0 := zi_le0 (by omega) (by omega)
  unfold wpX_bring
  dsimp only
  rw [hc, hc', eL', eH', eA', eB', eC']
  refine zi_iff c0 (fun z => ?_) (fun z => ⟨hin', zi_iff cH (fun zH => ⟨hin', ?_⟩) (fun zH => ?_)⟩)
  · refine hp _ _ _ _ _ _ hid (q_par_off hP (fun x y _ => by rw [z, Int.zero_mul]) (by omega) (by omega) (by omega))
  · obtain ⟨A, B, C, L, H, ⟨eL, eH, eA, eB, eC⟩, b, hr, hl, hpt⟩ := hP
    have key : wX_bring_84 post (nI k) (nI i) (zi f) fw fb nm un lo hi f0 f1 re li le ri bo tp := by
      have hfin : ∀ lo' hi' : Nat → Int32, lo' = upd lo k (zi (L + q_mn f (q_clip L') H')) → hi' = upd hi k (zi (H + q_mx f (q_clip L') H')) → post (fw, fb, nm, un, lo', hi', f0, f1, re, upd li k 0, le, ri, bo, tp) := by
        intro lo' hi' elo ehi
        refine hp _ _ _ _ _ _ ?_ ?_
        · intro j hj
          rw [elo, ehi]
          simp only [upd, if_neg hj, and_self]
        · rw [elo, ehi]
          simp only [upd, if_pos, eA, eB, eC]
          exact q_par_mix b hr hpt bf (by omega) zH hr' hpt' (by omega) (by omega)
      have key2 : ∀ z0 : Int32, z0 = zi (q_clip L') → wX_bring_103 post (nI k) (nI i) (zi f) z0 fw fb nm un lo hi f0 f1 re li le ri bo tp := by
        intro z0 ez
        subst ez
        unfold wX_bring_103
        rw [hc, hc', eH', eL]
        refine ⟨hin', nm_e ⟨hin, ?_⟩⟩
        simp only [wX_bring_135, wX_bring_159, hc, eH, zi_mul, zi_add, xb_0]
        rcases Int.lt_or_le 0 f with a | a
        · have a' : ¬ zi f ≤ 0 := fun z => absurd (cf.mp z) (by omega)
          rw [q_mn_p a, q_mx_p a] at hfin
          exact br_f a' ⟨hin, nm_e ⟨hin, br_f a' ⟨hin, nm_e ⟨hin, nm_e (hfin _ _ rfl rfl)⟩⟩⟩⟩
        · have a' : zi f ≤ 0 := cf.mpr a
          rw [q_mn_n a, q_mx_n a] at hfin
          exact br_t a' ⟨hin, nm_e ⟨hin, br_t a' ⟨hin, nm_e ⟨hin, nm_e (hfin _ _ rfl rfl)⟩⟩⟩⟩
      unfold wX_bring_84
      rw [hc', eL']
      refine ⟨hin', zi_iff cl (fun y => key2 _ ?_) (fun y => ⟨hin', key2 _ ?_⟩)⟩
      · rw [q_clip_n y]; exact zi_0
      · rw [q_clip_p (by omega)]
    refine br_c (fun _ => key) (fun zl => ⟨hin', zi_iff cL (fun _ => key) (fun zL => ?_)⟩)
    rw [eA, eB, eC, zi_mul, zi_mul, zi_mul, zi_add, zi_add, zi_add]
    refine ⟨hin, hin', hin, nm_e ⟨hin, hin', hin, nm_e ⟨hin, hin', hin, nm_e (hp _ _ _ _ _ _ ?_ ?_)⟩⟩⟩
    · intro j hj
      simp only [upd, if_neg hj, and_self]
    · simp only [upd, if_pos, eL, eH]
      exact q_par_lin b hr hl hpt bf (by omega) (hl' zl).1 (fun x y h => by have := hr' x y h; omega) (by omega)
  · refine hp _ _ _ _ _ _ hid (q_par_off hP (fun x y h => ?_) (by omega) (by omega) (by omega))
    have := hr' x y h
    rw [q_clip_n (by omega), Int.mul_zero]
end
section
/-! ===== range: all six rows ===== -/
theorem xr_tr {k : Nat} {lo hi f0 f1 re li lo' hi' f0' f1' re' li' lo2 hi2 f02 f12 re2 li2 : Nat → Int32} (h : xr_ag k lo hi f0 f1 re li lo' hi' f0' f1' re' li') (h' : xr_ag k lo' hi' f0' f1' re' li' lo2 hi2 f02 f12 re2 li2) : xr_ag k lo hi f0 f1 re li lo2 hi2 f02 f12 re2 li2 := by
  intro j hj
  obtain ⟨a, b, c, d, e, f⟩ := h j hj
  obtain ⟨a', b', c', d', e', f'⟩ := h' j hj
  exact ⟨a'.trans a, b'.trans b, c'.trans c, d'.trans d, e'.trans e, f'.trans f⟩
theorem xr_fi {k j : Nat} (hj : j ≠ k) {lo hi f0 f1 re li lo' hi' f0' f1' re' li' : Nat → Int32} (h : xr_ag k lo hi f0 f1 re li lo' hi' f0' f1' re' li') {l0 h0 l1 h1 MA MC ML : Int} {g : Int → Int → Int} (hF : q_fin l0 h0 l1 h1 g MA MC ML (lo j) (hi j) (f0 j) (f1 j) (re j) (li j)) : q_fin l0 h0 l1 h1 g MA MC ML (lo' j) (hi' j) (f0' j) (f1' j) (re' j) (li' j) := by
  obtain ⟨a, b, c, d, e, f⟩ := h j hj
  rw [a, b, c, d, e, f]
  exact hF
theorem xg_3s {post : SX → Prop} {fw fb : Int32} {nm un lo hi f0 f1 re li le ri bo tp : Nat → Int32} {w : Nat → Int} (hw : ∀ j, nm j = zi (w j)) (ok : q_ok w) {l0 h0 l1 h1 : Int} (gb : q_gb l0 h0 l1 h1) {k n : Nat} (hk : k < 3)
    (hp : ∀ lo' hi' f0' f1' re' li' : Nat → Int32, xr_ag k lo hi f0 f1 re li lo' hi' f0' f1' re' li' → q_fin l0 h0 l1 h1 (q_in0 w k) 5 50 (50 + 32 * 5) (lo' k) (hi' k) (f0' k) (f1' k) (re' k) (li' k) → wX_range_3 post (zi l0) (zi h0) (zi l1) (zi h1) n (nI (k + 1)) fw fb nm un lo' hi' f0' f1' re' li' le ri bo tp) :
    wX_range_3 post (zi l0) (zi h0) (zi l1) (zi h1) (n + 1) (nI k) fw fb nm un lo hi f0 f1 re li le ri bo tp := by
  have hin : vp_in (nI k) 6 := vp_in_nI (by omega) (by decide)
  have hc : (nI k).toNatClampNeg = k := nI_clamp (by omega)
  have h3 : ¬ (3 : Int32) ≤ nI k := nI_ge (b := 3) hk (by decide)
  have e1 : (2 : Int32) * nI k = nI (2 * k) := pk_mul 2 k
  have e2 : nI (2 * k) + 1 = nI (2 * k + 1) := nI_1 _
  have e3 : (6 : Int32) + nI k = nI (6 + k) := nI_add 6 k
  have c1 : (nI (2 * k)).toNatClampNeg = 2 * k := nI_clamp (by omega)
  have c2 : (nI (2 * k + 1)).toNatClampNeg = 2 * k + 1 := nI_clamp (by omega)
  have c3 : (nI (6 + k)).toNatClampNeg = 6 + k := nI_clamp (by omega)
  have bA := q_ok_f ok (2 * k) (by omega) (by unfold q_of; omega)
  have bB := q_ok_f ok (2 * k + 1) (by omega) (by unfold q_of; omega)
  have bC := q_ok_o ok (6 + k) (by omega)
  simp only [wX_range_3, e1, e2, e3, c1, c2, c3, hc, hw]
  refine br_f h3 ⟨vp_in_nI (by omega) (by decide), hin, nm_e ⟨vp_in_nI (by omega) (by decide), hin, nm_e ⟨vp_in_nI (by omega) (by decide), hin, nm_e ⟨hin, nm_e ?_⟩⟩⟩⟩
  refine xr_exact (by omega) (A := w (2 * k)) (B := w (2 * k + 1)) (C := w (6 + k)) pk_us pk_us pk_us (by omega) (by omega) ?_
  dsimp only
  refine nm_r (nI_1 k) (hp _ _ _ _ _ _ ?_ ?_)
  · intro j hj
    simp only [upd, if_neg hj, and_self]
  · simp only [upd, if_pos]
    exact q_fin_lin gb bA bB bC (fun _ _ => rfl) _
theorem xg_3e {post : SX → Prop} {fw fb : Int32} {nm un lo hi f0 f1 re li le ri bo tp : Nat → Int32} {x1 x2 x3 x4 : Int32} {n : Nat} (hp : ∃ m, wX_range_88 post x1 x2 x3 x4 m (nI 3) fw fb nm un lo hi f0 f1 re li le ri bo tp) : wX_range_3 post x1 x2 x3 x4 (n + 1) (nI 3) fw fb nm un lo hi f0 f1 re li le ri bo tp := by
  simp only [wX_range_3]
  exact br_t (by decide) hp
theorem xg_113s {post : SX → Prop} {J : Int32 → Int32 → Int32 → (Nat → Int32) → (Nat → Int32) → (Nat → Int32) → (Nat → Int32) → (Nat → Int32) → (Nat → Int32) → (Nat → Int32) → (Nat → Int32) → (Nat → Int32) → (Nat → Int32) → (Nat → Int32) → (Nat → Int32) → Prop} {fw fb : Int32} {nm un lo hi f0 f1 re li le ri bo tp : Nat → Int32} {w : Nat → Int} (hw : ∀ j, nm j = zi (w j)) (ok : q_ok w) {x1 x2 x3 x4 : Int32} {l0 h0 l1 h1 : Int} {k i n : Nat} (hk : k < 2) (hi3 : i < 3) {MA MC ML MS MR MT : Int} {g s : Int → Int → Int}
    (hP : q_par l0 h0 l1 h1 g MA MC ML (lo (3 + k)) (hi (3 + k)) (f0 (3 + k)) (f1 (3 + k)) (re (3 + k)) (li (3 + k))) (hF : q_fin l0 h0 l1 h1 s MS MR MT (lo i) (hi i) (f0 i) (f1 i) (re i) (li i))
    (bM : 0 ≤ MS ∧ 0 ≤ MR ∧ 0 ≤ MT ∧ MT ≤ 1000000)
    (hp : ∀ lo' hi' f0' f1' re' li' : Nat → Int32, xr_ag (3 + k) lo hi f0 f1 re li lo' hi' f0' f1' re' li' → q_par l0 h0 l1 h1 (fun x y => g x y + w (9 + 3 * k + i) * q_clip (s x y)) (MA + 5 * MS) (MC + 5 * MR) (ML + 5 * MT) (lo' (3 + k)) (hi' (3 + k)) (f0' (3 + k)) (f1' (3 + k)) (re' (3 + k)) (li' (3 + k)) → wX_range_113 post J x1 x2 x3 x4 (nI (3 + k)) n (nI (i + 1)) fw fb nm un lo' hi' f0' f1' re' li' le ri bo tp) :
    wX_range_113 post J x1 x2 x3 x4 (nI (3 + k)) (n + 1) (nI i) fw fb nm un lo hi f0 f1 re li le ri bo tp := by
  have h3 : ¬ (3 : Int32) ≤ nI i := nI_ge (b := 3) hi3 (by decide)
  have e0 : nI (3 + k) - 3 = nI k := (pk_sub (a := 3 + k) (b := 3) (by omega)).trans (congrArg nI (Nat.add_sub_cancel_left _ _))
  have e1 : (3 : Int32) * nI k = nI (3 * k) := pk_mul 3 k
  have e2 : (9 : Int32) + nI (3 * k) = nI (9 + 3 * k) := nI_add 9 _
  have e3 : nI (9 + 3 * k) + nI i = nI (9 + 3 * k + i) := nI_add _ _
  have c1 : (nI (9 + 3 * k + i)).toNatClampNeg = 9 + 3 * k + i := nI_clamp (by omega)
  have bf := q_ok_f ok (9 + 3 * k + i) (by omega) (by unfold q_of; omega)
  simp only [wX_range_113, e0, e1, e2, e3, c1, hw]
  refine br_f h3 ⟨vp_in_nI (by omega) (by decide), ?_⟩
  refine xr_bring (by omega) (by omega) hP hF bf bM ?_
  intro lo' hi' f0' f1' re' li' ha hq
  dsimp only
  exact nm_r (nI_1 i) (hp _ _ _ _ _ _ ha hq)
theorem xg_113e {post : SX → Prop} {J : Int32 → Int32 → Int32 → (Nat → Int32) → (Nat → Int32) → (Nat → Int32) → (Nat → Int32) → (Nat → Int32) → (Nat → Int32) → (Nat → Int32) → (Nat → Int32) → (Nat → Int32) → (Nat → Int32) → (Nat → Int32) → (Nat → Int32) → Prop} {fw fb : Int32} {nm un lo hi f0 f1 re li le ri bo tp : Nat → Int32} {l0 h0 l1 h1 : Int} (gb : q_gb l0 h0 l1 h1) {k n : Nat} (hk : k < 2) {MA MC ML : Int} {g : Int → Int → Int}
    (hP : q_par l0 h0 l1 h1 g MA MC ML (lo (3 + k)) (hi (3 + k)) (f0 (3 + k)) (f1 (3 + k)) (re (3 + k)) (li (3 + k))) (bM : MA ≤ 1000000)
    (hp : ∀ lo' hi' f0' f1' re' li' : Nat → Int32, xr_ag (3 + k) lo hi f0 f1 re li lo' hi' f0' f1' re' li' → q_fin l0 h0 l1 h1 g MA MC (ML + MC + 32 * MA) (lo' (3 + k)) (hi' (3 + k)) (f0' (3 + k)) (f1' (3 + k)) (re' (3 + k)) (li' (3 + k)) → J (nI (3 + k + 1)) fw fb nm un lo' hi' f0' f1' re' li' le ri bo tp) :
    wX_range_113 post J (zi l0) (zi h0) (zi l1) (zi h1) (nI (3 + k)) (n + 1) (nI 3) fw fb nm un lo hi f0 f1 re li le ri bo tp := by
  simp only [wX_range_113]
  refine br_t (by decide) ?_
  refine xr_finish (by omega) gb hP bM ?_
  intro lo' hi' f0' f1' re' li' ha hq
  dsimp only
  exact nm_r (nI_1 (3 + k)) (hp _ _ _ _ _ _ ha hq)
theorem xg_88s {post : SX → Prop} {fw fb : Int32} {nm un lo hi f0 f1 re li le ri bo tp : Nat → Int32} {w : Nat → Int} (hw : ∀ j, nm j = zi (w j)) (ok : q_ok w) {l0 h0 l1 h1 : Int} (gb : q_gb l0 h0 l1 h1) {k n : Nat} (hk : k < 2)
    (F0 : q_fin l0 h0 l1 h1 (q_in0 w 0) 5 50 210 (lo 0) (hi 0) (f0 0) (f1 0) (re 0) (li 0))
    (F1 : q_fin l0 h0 l1 h1 (q_in0 w 1) 5 50 210 (lo 1) (hi 1) (f0 1) (f1 1) (re 1) (li 1))
    (F2 : q_fin l0 h0 l1 h1 (q_in0 w 2) 5 50 210 (lo 2) (hi 2) (f0 2) (f1 2) (re 2) (li 2))
    (hp : ∀ lo' hi' f0' f1' re' li' : Nat → Int32, xr_ag (3 + k) lo hi f0 f1 re li lo' hi' f0' f1' re' li' → q_fin l0 h0 l1 h1 (q_out w k) 75 800 6350 (lo' (3 + k)) (hi' (3 + k)) (f0' (3 + k)) (f1' (3 + k)) (re' (3 + k)) (li' (3 + k)) → wX_range_88 post (zi l0) (zi h0) (zi l1) (zi h1) n (nI (3 + k + 1)) fw fb nm un lo' hi' f0' f1' re' li' le ri bo tp) :
    wX_range_88 post (zi l0) (zi h0) (zi l1) (zi h1) (n + 1) (nI (3 + k)) fw fb nm un lo hi f0 f1 re li le ri bo tp := by
  have h3 : ¬ (5 : Int32) ≤ nI (3 + k) := nI_ge (b := 5) (by omega) (by decide)
  have e1 : (12 : Int32) + nI (3 + k) = nI (15 + k) := (nI_add 12 (3 + k)).trans (congrArg nI (by omega))
  have c1 : (nI (15 + k)).toNatClampNeg = 15 + k := nI_clamp (by omega)
  have bc := q_ok_o ok (15 + k) (by omega)
  simp only [wX_range_88, e1, c1, hw]
  refine br_f h3 ⟨vp_in_nI (by omega) (by decide), ?_⟩
  refine xr_begin (l0 := l0) (h0 := h0) (l1 := l1) (h1 := h1) (by omega) bc ?_
  intro lo' hi' f0' f1' re' li' ha hq
  dsimp only
  refine ⟨4, ?_⟩
  refine xg_113s (i := 0) hw ok hk (by omega) hq (xr_fi (by omega) ha F0) (by omega) ?_
  intro lo1 hi1 f01 f11 re1 li1 ha1 hq1
  have b1 := xr_tr ha ha1
  refine xg_113s (i := 1) hw ok hk (by omega) hq1 (xr_fi (by omega) b1 F1) (by omega) ?_
  intro lo2 hi2 f02 f12 re2 li2 ha2 hq2
  have b2 := xr_tr b1 ha2
  refine xg_113s (i := 2) hw ok hk (by omega) hq2 (xr_fi (by omega) b2 F2) (by omega) ?_
  intro lo3 hi3 f03 f13 re3 li3 ha3 hq3
  have b3 := xr_tr b2 ha3
  refine xg_113e gb hk hq3 (by omega) ?_
  intro lo4 hi4 f04 f14 re4 li4 ha4 hq4
  exact hp _ _ _ _ _ _ (xr_tr b3 ha4) (q_fin_c hq4 (fun _ _ => rfl))
theorem xg_182s {post : SX → Prop} {fw fb : Int32} {nm un lo hi f0 f1 re li le ri bo tp : Nat → Int32} {w : Nat → Int} (hw : ∀ j, nm j = zi (w j)) (ok : q_ok w) {x1 x2 x3 x4 : Int32} {l0 h0 l1 h1 : Int} {i n : Nat} (hi3 : i < 2) {MA MC ML MS MR MT : Int} {g s : Int → Int → Int}
    (hP : q_par l0 h0 l1 h1 g MA MC ML (lo 5) (hi 5) (f0 5) (f1 5) (re 5) (li 5)) (hF : q_fin l0 h0 l1 h1 s MS MR MT (lo (3 + i)) (hi (3 + i)) (f0 (3 + i)) (f1 (3 + i)) (re (3 + i)) (li (3 + i)))
    (bM : 0 ≤ MS ∧ 0 ≤ MR ∧ 0 ≤ MT ∧ MT ≤ 1000000)
    (hp : ∀ lo' hi' f0' f1' re' li' : Nat → Int32, xr_ag 5 lo hi f0 f1 re li lo' hi' f0' f1' re' li' → q_par l0 h0 l1 h1 (fun x y => g x y + w (17 + i) * q_clip (s x y)) (MA + 5 * MS) (MC + 5 * MR) (ML + 5 * MT) (lo' 5) (hi' 5) (f0' 5) (f1' 5) (re' 5) (li' 5) → wX_range_182 post x1 x2 x3 x4 n (nI (3 + i + 1)) fw fb nm un lo' hi' f0' f1' re' li' le ri bo tp) :
    wX_range_182 post x1 x2 x3 x4 (n + 1) (nI (3 + i)) fw fb nm un lo hi f0 f1 re li le ri bo tp := by
  have h3 : ¬ (5 : Int32) ≤ nI (3 + i) := nI_ge (b := 5) (by omega) (by decide)
  have e1 : (14 : Int32) + nI (3 + i) = nI (17 + i) := (nI_add 14 (3 + i)).trans (congrArg nI (by omega))
  have c1 : (nI (17 + i)).toNatClampNeg = 17 + i := nI_clamp (by omega)
  have bf := q_ok_f ok (17 + i) (by omega) (by unfold q_of; omega)
  simp only [wX_range_182, e1, c1, hw]
  refine br_f h3 ⟨vp_in_nI (by omega) (by decide), ?_⟩
  refine xr_bring (k := 5) (by omega) (by omega) hP hF bf bM ?_
  intro lo' hi' f0' f1' re' li' ha hq
  dsimp only
  exact nm_r (nI_1 (3 + i)) (hp _ _ _ _ _ _ ha hq)
theorem xg_182e {post : SX → Prop} {fw fb : Int32} {nm un lo hi f0 f1 re li le ri bo tp : Nat → Int32} {l0 h0 l1 h1 : Int} (gb : q_gb l0 h0 l1 h1) {n : Nat} {MA MC ML : Int} {g : Int → Int → Int}
    (hP : q_par l0 h0 l1 h1 g MA MC ML (lo 5) (hi 5) (f0 5) (f1 5) (re 5) (li 5)) (bM : MA ≤ 1000000)
    (hp : ∀ lo' hi' f0' f1' re' li' : Nat → Int32, xr_ag 5 lo hi f0 f1 re li lo' hi' f0' f1' re' li' → q_fin l0 h0 l1 h1 g MA MC (ML + MC + 32 * MA) (lo' 5) (hi' 5) (f0' 5) (f1' 5) (re' 5) (li' 5) → post (fw, fb, nm, un, lo', hi', f0', f1', re', li', le, ri, bo, tp)) :
    wX_range_182 post (zi l0) (zi h0) (zi l1) (zi h1) (n + 1) (nI 5) fw fb nm un lo hi f0 f1 re li le ri bo tp := by
  simp only [wX_range_182]
  refine br_t (by decide) ?_
  refine xr_finish (k := 5) (by omega) gb hP bM ?_
  intro lo' hi' f0' f1' re' li' ha hq
  exact hp _ _ _ _ _ _ ha hq
theorem xg_88e {post : SX → Prop} {fw fb : Int32} {nm un lo hi f0 f1 re li le ri bo tp : Nat → Int32} {w : Nat → Int} (hw : ∀ j, nm j = zi (w j)) (ok : q_ok w) {l0 h0 l1 h1 : Int} (gb : q_gb l0 h0 l1 h1) {n : Nat}
    (F3 : q_fin l0 h0 l1 h1 (q_out w 0) 75 800 6350 (lo 3) (hi 3) (f0 3) (f1 3) (re 3) (li 3))
    (F4 : q_fin l0 h0 l1 h1 (q_out w 1) 75 800 6350 (lo 4) (hi 4) (f0 4) (f1 4) (re 4) (li 4))
    (hp : ∀ lo' hi' f0' f1' re' li' : Nat → Int32, xr_ag 5 lo hi f0 f1 re li lo' hi' f0' f1' re' li' → q_fin l0 h0 l1 h1 (q_res w) 750 8050 95550 (lo' 5) (hi' 5) (f0' 5) (f1' 5) (re' 5) (li' 5) → post (fw, fb, nm, un, lo', hi', f0', f1', re', li', le, ri, bo, tp)) :
    wX_range_88 post (zi l0) (zi h0) (zi l1) (zi h1) (n + 1) (nI 5) fw fb nm un lo hi f0 f1 re li le ri bo tp := by
  have bc := q_ok_o ok 19 (by omega)
  simp only [wX_range_88]
  refine br_t (by decide) ?_
  rw [hw 19]
  refine xr_begin (k := 5) (l0 := l0) (h0 := h0) (l1 := l1) (h1 := h1) (by omega) bc ?_
  intro lo' hi' f0' f1' re' li' ha hq
  dsimp only
  refine ⟨3, ?_⟩
  refine xg_182s (i := 0) hw ok (by omega) hq (xr_fi (by omega) ha F3) (by omega) ?_
  intro lo1 hi1 f01 f11 re1 li1 ha1 hq1
  have b1 := xr_tr ha ha1
  refine xg_182s (i := 1) hw ok (by omega) hq1 (xr_fi (by omega) b1 F4) (by omega) ?_
  intro lo2 hi2 f02 f12 re2 li2 ha2 hq2
  have b2 := xr_tr b1 ha2
  refine xg_182e gb hq2 (by omega) ?_
  intro lo3 hi3 f03 f13 re3 li3 ha3 hq3
  exact hp _ _ _ _ _ _ (xr_tr b2 ha3) (q_fin_c hq3 (fun _ _ => rfl))
/-- range, whole -/
theorem xg_range {post : SX → Prop} {fw fb : Int32} {nm un lo hi f0 f1 re li le ri bo tp : Nat → Int32} {w : Nat → Int} (hw : ∀ j, nm j = zi (w j)) (ok : q_ok w) {l0 h0 l1 h1 : Int} (gb : q_gb l0 h0 l1 h1)
    (hp : ∀ lo' hi' f0' f1' re' li' : Nat → Int32, (∀ t, t < 6 → q_row l0 h0 l1 h1 (q_sm w t) (lo' t) (hi' t) (li' t)) → post (fw, fb, nm, un, lo', hi', f0', f1', re', li', le, ri, bo, tp)) :
    wpX_range post (fw, fb, nm, un, lo, hi, f0, f1, re, li, le, ri, bo, tp) (zi l0) (zi h0) (zi l1) (zi h1) := by
  unfold wpX_range
  dsimp only
  refine ⟨4, ?_⟩
  refine xg_3s (k := 0) hw ok gb (by omega) ?_
  intro loa hia f0a f1a rea lia aga Fa
  refine xg_3s (k := 1) hw ok gb (by omega) ?_
  intro lob hib f0b f1b reb lib agb Fb
  refine xg_3s (k := 2) hw ok gb (by omega) ?_
  intro loc hic f0c f1c rex lic agc Fc
  have Fa2 := xr_fi (j := 0) (by omega) agc (xr_fi (j := 0) (by omega) agb Fa)
  have Fb2 := xr_fi (j := 1) (by omega) agc Fb
  refine xg_3e ⟨3, ?_⟩
  refine xg_88s (k := 0) hw ok gb (by omega) Fa2 Fb2 Fc ?_
  intro lod hid f0d f1d red lid agd Fd
  have Fa3 := xr_fi (j := 0) (by omega) agd Fa2
  have Fb3 := xr_fi (j := 1) (by omega) agd Fb2
  have Fc3 := xr_fi (j := 2) (by omega) agd Fc
  refine xg_88s (k := 1) hw ok gb (by omega) Fa3 Fb3 Fc3 ?_
  intro loe hie f0e f1e ree lie age Fe
  have Fa4 := xr_fi (j := 0) (by omega) age Fa3
  have Fb4 := xr_fi (j := 1) (by omega) age Fb3
  have Fc4 := xr_fi (j := 2) (by omega) age Fc3
  have Fd4 := xr_fi (j := 3) (by omega) age Fd
  refine xg_88e hw ok gb Fd4 Fe ?_
  intro lof hif f0f f1f ref lif agf Ff
  refine hp _ _ _ _ _ _ ?_
  intro t ht
  have Fa5 := xr_fi (j := 0) (by omega) agf Fa4
  have Fb5 := xr_fi (j := 1) (by omega) agf Fb4
  have Fc5 := xr_fi (j := 2) (by omega) agf Fc4
  have Fd5 := xr_fi (j := 3) (by omega) agf Fd4
  have Fe5 := xr_fi (j := 4) (by omega) agf Fe
  have ht' : t = 0 ∨ t = 1 ∨ t = 2 ∨ t = 3 ∨ t = 4 ∨ t = 5 := by omega
  rcases ht' with rfl | rfl | rfl | rfl | rfl | rfl
  · exact q_row_of (g := q_sm w 0) Fa5 (by omega)
  · exact q_row_of (g := q_sm w 1) Fb5 (by omega)
  · exact q_row_of (g := q_sm w 2) Fc5 (by omega)
  · exact q_row_of (g := q_sm w 3) Fd5 (by omega)
  · exact q_row_of (g := q_sm w 4) Fe5 (by omega)
  · exact q_row_of (g := q_sm w 5) Ff (by omega)
end
section
/-! ===== work: all sums at a point ===== -/
theorem xw_2s {post : SX → Prop} {fw fb : Int32} {nm un lo hi f0 f1 re li le ri bo tp : Nat → Int32} {w : Nat → Int} (hw : ∀ j, nm j = zi (w j)) {x y : Int} {k n : Nat} (hk : k < 3)
    (hp : wX_work_2 post (zi x) (zi y) fw fb n (nI (k + 1)) nm (upd un k (zi (q_in0 w k x y))) lo hi f0 f1 re li le ri bo tp) :
    wX_work_2 post (zi x) (zi y) fw fb (n + 1) (nI k) nm un lo hi f0 f1 re li le ri bo tp := by
  have hin : vp_in (nI k) 6 := vp_in_nI (by omega) (by decide)
  have hc : (nI k).toNatClampNeg = k := nI_clamp (by omega)
  have h3 : ¬ (3 : Int32) ≤ nI k := nI_ge (b := 3) hk (by decide)
  have e1 : (2 : Int32) * nI k = nI (2 * k) := pk_mul 2 k
  have e2 : nI (2 * k) + 1 = nI (2 * k + 1) := nI_1 _
  have e3 : (6 : Int32) + nI k = nI (6 + k) := nI_add 6 k
  have c1 : (nI (2 * k)).toNatClampNeg = 2 * k := nI_clamp (by omega)
  have c2 : (nI (2 * k + 1)).toNatClampNeg = 2 * k + 1 := nI_clamp (by omega)
  have c3 : (nI (6 + k)).toNatClampNeg = 6 + k := nI_clamp (by omega)
  simp only [wX_work_2, e1, e2, e3, c1, c2, c3, hc, hw, zi_mul, zi_add]
  exact br_f h3 ⟨vp_in_nI (by omega) (by decide), vp_in_nI (by omega) (by decide), vp_in_nI (by omega) (by decide), hin, nm_e (nm_r (nI_1 k) hp)⟩
theorem xw_2e {post : SX → Prop} {fw fb : Int32} {nm un lo hi f0 f1 re li le ri bo tp : Nat → Int32} {x1 x2 : Int32} {n : Nat} (hp : ∃ m, wX_work_54 post fw fb m (nI 0) nm un lo hi f0 f1 re li le ri bo tp) : wX_work_2 post x1 x2 fw fb (n + 1) (nI 3) nm un lo hi f0 f1 re li le ri bo tp := by
  simp only [wX_work_2]
  exact br_t (by decide) hp
theorem xw_73s {post : SX → Prop} {J : Int32 → (Nat → Int32) → (Nat → Int32) → (Nat → Int32) → (Nat → Int32) → (Nat → Int32) → (Nat → Int32) → (Nat → Int32) → (Nat → Int32) → (Nat → Int32) → (Nat → Int32) → (Nat → Int32) → (Nat → Int32) → Prop} {fw fb : Int32} {nm un lo hi f0 f1 re li le ri bo tp : Nat → Int32} {w : Nat → Int} (hw : ∀ j, nm j = zi (w j)) {k i n : Nat} (hk : k < 2) (hi3 : i < 3) {S s : Int} (hs : un i = zi s) (bs : -100000 ≤ s ∧ s ≤ 100000)
    (hp : wX_work_73 post J (nI k) fw fb nm un lo hi f0 f1 re li le ri bo tp n (zi (S + w (9 + 3 * k + i) * q_clip s)) (nI (i + 1))) :
    wX_work_73 post J (nI k) fw fb nm un lo hi f0 f1 re li le ri bo tp (n + 1) (zi S) (nI i) := by
  have hin : vp_in (nI i) 6 := vp_in_nI (by omega) (by decide)
  have hc : (nI i).toNatClampNeg = i := nI_clamp (by omega)
  have h3 : ¬ (3 : Int32) ≤ nI i := nI_ge (b := 3) hi3 (by decide)
  have e1 : (3 : Int32) * nI k = nI (3 * k) := pk_mul 3 k
  have e2 : (9 : Int32) + nI (3 * k) = nI (9 + 3 * k) := nI_add 9 _
  have e3 : nI (9 + 3 * k) + nI i = nI (9 + 3 * k + i) := nI_add _ _
  have c1 : (nI (9 + 3 * k + i)).toNatClampNeg = 9 + 3 * k + i := nI_clamp (by omega)
  have cs : zi s ≤ 0 ↔ s ≤ 0 := zi_le0 (by omega) (by omega)
  simp only [wX_work_73, e1, e2, e3, c1, hc, hw, hs, zi_mul, zi_add]
  refine br_f h3 ⟨hin, zi_iff cs (fun z => nm_r (e' := zi (S + w (9 + 3 * k + i) * q_clip s)) ?_ (nm_r (nI_1 i) hp)) (fun z => ⟨vp_in_nI (by omega) (by decide), hin, nm_r (e' := zi (S + w (9 + 3 * k + i) * q_clip s)) ?_ (nm_r (nI_1 i) hp)⟩)⟩
  · rw [q_clip_n z, Int.mul_zero, Int.add_zero, Int32.add_zero]
  · rw [q_clip_p (by omega)]
theorem xw_73e {post : SX → Prop} {J : Int32 → (Nat → Int32) → (Nat → Int32) → (Nat → Int32) → (Nat → Int32) → (Nat → Int32) → (Nat → Int32) → (Nat → Int32) → (Nat → Int32) → (Nat → Int32) → (Nat → Int32) → (Nat → Int32) → (Nat → Int32) → Prop} {fw fb : Int32} {nm un lo hi f0 f1 re li le ri bo tp : Nat → Int32} {k n : Nat} (hk : k < 2) {S : Int}
    (hp : J (nI (k + 1)) nm (upd un (3 + k) (zi S)) lo hi f0 f1 re li le ri bo tp) :
    wX_work_73 post J (nI k) fw fb nm un lo hi f0 f1 re li le ri bo tp (n + 1) (zi S) (nI 3) := by
  have e1 : (3 : Int32) + nI k = nI (3 + k) := nI_add 3 k
  have c1 : (nI (3 + k)).toNatClampNeg = 3 + k := nI_clamp (by omega)
  simp only [wX_work_73, e1, c1]
  exact br_t (by decide) ⟨vp_in_nI (by omega) (by decide), nm_e (nm_r (nI_1 k) hp)⟩
theorem xw_54s {post : SX → Prop} {fw fb : Int32} {nm un lo hi f0 f1 re li le ri bo tp : Nat → Int32} {w : Nat → Int} (hw : ∀ j, nm j = zi (w j)) (ok : q_ok w) {x y : Int} (hx : -16 ≤ x ∧ x ≤ 16) (hy : -16 ≤ y ∧ y ≤ 16) {k n : Nat} (hk : k < 2)
    (u0 : un 0 = zi (q_in0 w 0 x y)) (u1 : un 1 = zi (q_in0 w 1 x y)) (u2 : un 2 = zi (q_in0 w 2 x y))
    (hp : wX_work_54 post fw fb n (nI (k + 1)) nm (upd un (3 + k) (zi (q_out w k x y))) lo hi f0 f1 re li le ri bo tp) :
    wX_work_54 post fw fb (n + 1) (nI k) nm un lo hi f0 f1 re li le ri bo tp := by
  have h3 : ¬ (2 : Int32) ≤ nI k := nI_ge (b := 2) hk (by decide)
  have e1 : (15 : Int32) + nI k = nI (15 + k) := nI_add 15 k
  have c1 : (nI (15 + k)).toNatClampNeg = 15 + k := nI_clamp (by omega)
  have b0 := q_in0_b ok (k := 0) (by omega) hx hy
  have b1 := q_in0_b ok (k := 1) (by omega) hx hy
  have b2 := q_in0_b ok (k := 2) (by omega) hx hy
  simp only [wX_work_54, e1, c1, hw]
  refine br_f h3 ⟨vp_in_nI (by omega) (by decide), nm_e ⟨4, ?_⟩⟩
  refine xw_73s (i := 0) hw hk (by omega) u0 (by omega) ?_
  refine xw_73s (i := 1) hw hk (by omega) u1 (by omega) ?_
  refine xw_73s (i := 2) hw hk (by omega) u2 (by omega) ?_
  exact xw_73e hk hp
theorem xw_153s {post : SX → Prop} {fw fb : Int32} {nm un lo hi f0 f1 re li le ri bo tp : Nat → Int32} {w : Nat → Int} (hw : ∀ j, nm j = zi (w j)) {k n : Nat} (hk : k < 2) {S s : Int} (hs : un (3 + k) = zi s) (bs : -100000 ≤ s ∧ s ≤ 100000)
    (hp : wX_work_153 post fw fb nm un lo hi f0 f1 re li le ri bo tp n (zi (S + w (17 + k) * q_clip s)) (nI (k + 1))) :
    wX_work_153 post fw fb nm un lo hi f0 f1 re li le ri bo tp (n + 1) (zi S) (nI k) := by
  have h3 : ¬ (2 : Int32) ≤ nI k := nI_ge (b := 2) hk (by decide)
  have e1 : (3 : Int32) + nI k = nI (3 + k) := nI_add 3 k
  have e2 : (17 : Int32) + nI k = nI (17 + k) := nI_add 17 k
  have c1 : (nI (3 + k)).toNatClampNeg = 3 + k := nI_clamp (by omega)
  have c2 : (nI (17 + k)).toNatClampNeg = 17 + k := nI_clamp (by omega)
  have cs : zi s ≤ 0 ↔ s ≤ 0 := zi_le0 (by omega) (by omega)
  simp only [wX_work_153, e1, e2, c1, c2, hw, hs, zi_mul, zi_add]
  refine br_f h3 ⟨vp_in_nI (by omega) (by decide), zi_iff cs (fun z => nm_r (e' := zi (S + w (17 + k) * q_clip s)) ?_ (nm_r (nI_1 k) hp)) (fun z => ⟨vp_in_nI (by omega) (by decide), vp_in_nI (by omega) (by decide), nm_r (e' := zi (S + w (17 + k) * q_clip s)) ?_ (nm_r (nI_1 k) hp)⟩)⟩
  · rw [q_clip_n z, Int.mul_zero, Int.add_zero, Int32.add_zero]
  · rw [q_clip_p (by omega)]
theorem xw_153e {post : SX → Prop} {fw fb : Int32} {nm un lo hi f0 f1 re li le ri bo tp : Nat → Int32} {n : Nat} {S : Int32} (hp : post (fw, fb, nm, upd un 5 S, lo, hi, f0, f1, re, li, le, ri, bo, tp)) : wX_work_153 post fw fb nm un lo hi f0 f1 re li le ri bo tp (n + 1) S (nI 2) := by
  simp only [wX_work_153]
  exact br_t (by decide) (nm_e hp)
theorem xw_54e {post : SX → Prop} {fw fb : Int32} {nm un lo hi f0 f1 re li le ri bo tp : Nat → Int32} {w : Nat → Int} (hw : ∀ j, nm j = zi (w j)) (ok : q_ok w) {x y : Int} (hx : -16 ≤ x ∧ x ≤ 16) (hy : -16 ≤ y ∧ y ≤ 16) {n : Nat}
    (u3 : un 3 = zi (q_out w 0 x y)) (u4 : un 4 = zi (q_out w 1 x y))
    (hp : post (fw, fb, nm, upd un 5 (zi (q_res w x y)), lo, hi, f0, f1, re, li, le, ri, bo, tp)) :
    wX_work_54 post fw fb (n + 1) (nI 2) nm un lo hi f0 f1 re li le ri bo tp := by
  have b0 := q_out_b ok (k := 0) (by omega) hx hy
  have b1 := q_out_b ok (k := 1) (by omega) hx hy
  simp only [wX_work_54]
  refine br_t (by decide) (nm_r (hw 19) ⟨3, ?_⟩)
  refine xw_153s (k := 0) hw (by omega) u3 (by omega) ?_
  refine xw_153s (k := 1) hw (by omega) u4 (by omega) ?_
  exact xw_153e hp
/-- work, whole -/
theorem xw_work {post : SX → Prop} {fw fb : Int32} {nm un lo hi f0 f1 re li le ri bo tp : Nat → Int32} {w : Nat → Int} (hw : ∀ j, nm j = zi (w j)) (ok : q_ok w) {x y : Int} (hx : -16 ≤ x ∧ x ≤ 16) (hy : -16 ≤ y ∧ y ≤ 16)
    (hp : ∀ un' : Nat → Int32, (∀ t, t < 6 → un' t = zi (q_sm w t x y)) → post (fw, fb, nm, un', lo, hi, f0, f1, re, li, le, ri, bo, tp)) :
    wpX_work post (fw, fb, nm, un, lo, hi, f0, f1, re, li, le, ri, bo, tp) (zi x) (zi y) := by
  unfold wpX_work
  dsimp only
  refine ⟨4, ?_⟩
  refine xw_2s (k := 0) hw (by omega) ?_
  refine xw_2s (k := 1) hw (by omega) ?_
  refine xw_2s (k := 2) hw (by omega) ?_
  refine xw_2e ⟨3, ?_⟩
  refine xw_54s (k := 0) hw ok hx hy (by omega) ?_ ?_ ?_ ?_
  · simp [upd]
  · simp [upd]
  · simp [upd]
  refine xw_54s (k := 1) hw ok hx hy (by omega) ?_ ?_ ?_ ?_
  · simp [upd]
  · simp [upd]
  · simp [upd]
  refine xw_54e hw ok hx hy ?_ ?_ ?_
  · simp [upd]
  · simp [upd]
  refine hp _ ?_
  intro t ht
  have ht' : t = 0 ∨ t = 1 ∨ t = 2 ∨ t = 3 ∨ t = 4 ∨ t = 5 := by omega
  rcases ht' with rfl | rfl | rfl | rfl | rfl | rfl <;> simp [upd, q_sm]
/-! ===== the reference's sums ===== -/
theorem yg_clip {post : Int32 → Prop} {w0 w1 w2 w3 : Int32} {nm : Nat → Int32} {t : Int} (b : -1000000 ≤ t ∧ t ≤ 1000000) (hp : post (zi (q_clip t))) : wpY_clip post (w0, w1, w2, w3, nm) (zi t) := by
  have cs : zi t ≤ 0 ↔ t ≤ 0 := zi_le0 (by omega) (by omega)
  unfold wpY_clip
  dsimp only
  refine zi_iff cs (fun z => ?_) (fun z => ?_)
  · rw [q_clip_n z] at hp
    rw [zi_0]
    exact hp
  · rw [q_clip_p (by omega)] at hp
    exact hp
theorem yg_inner {post : Int32 → Prop} {w0 w1 w2 w3 : Int32} {nm : Nat → Int32} {w : Nat → Int} (hw : ∀ j, nm j = zi (w j)) (ok : q_ok w) {x y : Int} (hx : -16 ≤ x ∧ x ≤ 16) (hy : -16 ≤ y ∧ y ≤ 16) {k : Nat} (hk : k < 3)
    (hp : post (zi (q_clip (q_in0 w k x y)))) : wpY_inner post (w0, w1, w2, w3, nm) (nI k) (zi x) (zi y) := by
  have e1 : (2 : Int32) * nI k = nI (2 * k) := pk_mul 2 k
  have e2 : nI (2 * k) + 1 = nI (2 * k + 1) := nI_1 _
  have e3 : (6 : Int32) + nI k = nI (6 + k) := nI_add 6 k
  have c1 : (nI (2 * k)).toNatClampNeg = 2 * k := nI_clamp (by omega)
  have c2 : (nI (2 * k + 1)).toNatClampNeg = 2 * k + 1 := nI_clamp (by omega)
  have c3 : (nI (6 + k)).toNatClampNeg = 6 + k := nI_clamp (by omega)
  have b := q_in0_b ok hk hx hy
  unfold wpY_inner
  simp only [e1, e2, e3, c1, c2, c3, hw, zi_mul, zi_add]
  exact ⟨vp_in_nI (by omega) (by decide), vp_in_nI (by omega) (by decide), vp_in_nI (by omega) (by decide), yg_clip (t := q_in0 w k x y) (by omega) hp⟩
theorem yg_14s {post : Int32 → Prop} {w0 w1 w2 w3 : Int32} {nm : Nat → Int32} {w : Nat → Int} (hw : ∀ j, nm j = zi (w j)) (ok : q_ok w) {x y : Int} (hx : -16 ≤ x ∧ x ≤ 16) (hy : -16 ≤ y ∧ y ≤ 16) {k i n : Nat} (hk : k < 2) (hi3 : i < 3) {S : Int}
    (hp : wY_outer_14 post (nI k) (zi x) (zi y) w0 w1 w2 w3 nm n (zi (S + w (9 + 3 * k + i) * q_clip (q_in0 w i x y))) (nI (i + 1))) :
    wY_outer_14 post (nI k) (zi x) (zi y) w0 w1 w2 w3 nm (n + 1) (zi S) (nI i) := by
  have h3 : ¬ (3 : Int32) ≤ nI i := nI_ge (b := 3) hi3 (by decide)
  have e1 : (3 : Int32) * nI k = nI (3 * k) := pk_mul 3 k
  have e2 : (9 : Int32) + nI (3 * k) = nI (9 + 3 * k) := nI_add 9 _
  have e3 : nI (9 + 3 * k) + nI i = nI (9 + 3 * k + i) := nI_add _ _
  have c1 : (nI (9 + 3 * k + i)).toNatClampNeg = 9 + 3 * k + i := nI_clamp (by omega)
  simp only [wY_outer_14, e1, e2, e3, c1, hw]
  refine br_f h3 ⟨vp_in_nI (by omega) (by decide), yg_inner hw ok hx hy hi3 ?_⟩
  exact nm_r (by rw [zi_mul, zi_add]) (nm_r (nI_1 i) hp)
theorem yg_outer {post : Int32 → Prop} {w0 w1 w2 w3 : Int32} {nm : Nat → Int32} {w : Nat → Int} (hw : ∀ j, nm j = zi (w j)) (ok : q_ok w) {x y : Int} (hx : -16 ≤ x ∧ x ≤ 16) (hy : -16 ≤ y ∧ y ≤ 16) {k : Nat} (hk : k < 2)
    (hp : post (zi (q_clip (q_out w k x y)))) : wpY_outer post (w0, w1, w2, w3, nm) (nI k) (zi x) (zi y) := by
  have e1 : (15 : Int32) + nI k = nI (15 + k) := nI_add 15 k
  have c1 : (nI (15 + k)).toNatClampNeg = 15 + k := nI_clamp (by omega)
  have b := q_out_b ok hk hx hy
  unfold wpY_outer
  simp only [e1, c1, hw]
  refine ⟨vp_in_nI (by omega) (by decide), nm_e ⟨4, ?_⟩⟩
  refine yg_14s (i := 0) hw ok hx hy hk (by omega) ?_
  refine yg_14s (i := 1) hw ok hx hy hk (by omega) ?_
  refine yg_14s (i := 2) hw ok hx hy hk (by omega) ?_
  simp only [wY_outer_14]
  exact br_t (by decide) (yg_clip (t := q_out w k x y) (by omega) hp)
theorem yg_given {post : Int32 → Prop} {w0 w1 w2 w3 : Int32} {nm : Nat → Int32} {w : Nat → Int} (hw : ∀ j, nm j = zi (w j)) (ok : q_ok w) {x y : Int} (hx : -16 ≤ x ∧ x ≤ 16) (hy : -16 ≤ y ∧ y ≤ 16)
    (hp : post (zi (q_sm w 5 x y))) : wpY_given post (w0, w1, w2, w3, nm) (zi x) (zi y) := by
  unfold wpY_given
  simp only [hw]
  refine yg_outer (k := 0) hw ok hx hy (by omega) ?_
  refine yg_outer (k := 1) hw ok hx hy (by omega) ?_
  rw [zi_mul, zi_mul, zi_add, zi_add]
  have e : w 17 * q_clip (q_out w 0 x y) + w 18 * q_clip (q_out w 1 x y) + w 19 = q_sm w 5 x y := by
    rw [q_sm_5]
    unfold q_res
    omega
  rw [e]
  exact hp
theorem yg_unit {post : Int32 → Prop} {w0 w1 w2 w3 : Int32} {nm : Nat → Int32} {w : Nat → Int} (hw : ∀ j, nm j = zi (w j)) (ok : q_ok w) {x y : Int} (hx : -16 ≤ x ∧ x ≤ 16) (hy : -16 ≤ y ∧ y ≤ 16) {t : Nat} (ht : t < 5)
    (hp : post (zi (q_clip (q_sm w t x y)))) : wpY_unitGiven post (w0, w1, w2, w3, nm) (nI t) (zi x) (zi y) := by
  unfold wpY_unitGiven
  dsimp only
  refine pk_le 3 t (fun h => ?_) (fun h => ?_)
  · obtain ⟨k, rfl⟩ : ∃ k, t = 3 + k := ⟨t - 3, by omega⟩
    have e0 : nI (3 + k) - 3 = nI k := (pk_sub (a := 3 + k) (b := 3) (by omega)).trans (congrArg nI (Nat.add_sub_cancel_left _ _))
    rw [e0]
    rw [q_sm_o w (by omega)] at hp
    exact yg_outer hw ok hx hy (by omega) hp
  · rw [q_sm_i w h] at hp
    exact yg_inner hw ok hx hy h hp
end
section
/-! ===== boxes and the stack, pure ===== -/
abbrev Bx : Type := Int × Int × Int × Int
def b_gd (b : Bx) : Prop := q_gb b.1 b.2.1 b.2.2.1 b.2.2.2
def b_in (b : Bx) (x y : Int) : Prop := q_in b.1 b.2.1 b.2.2.1 b.2.2.2 x y
def b_pt (b : Bx) : Prop := b.1 = b.2.1 ∧ b.2.2.1 = b.2.2.2
def b_cd (x y : Int) : Int := 32 * (x + 16) + y + 16
def b_dp (n : Nat) (b : Bx) : Prop := ∃ p q : Nat, p + q + n ≤ 10 ∧ b.2.1 - b.1 < 2 ^ p ∧ b.2.2.2 - b.2.2.1 < 2 ^ q
def b_cs (b : Bx) : Int := 2 * ((b.2.1 - b.1 + 1) * (b.2.2.2 - b.2.2.1 + 1)) - 1
def b_lf (b : Bx) : Bx := if b.1 < b.2.1 then (b.1, (b.1 + b.2.1) / 2, b.2.2.1, b.2.2.2) else (b.1, b.2.1, b.2.2.1, (b.2.2.1 + b.2.2.2) / 2)
def b_rt (b : Bx) : Bx := if b.1 < b.2.1 then ((b.1 + b.2.1) / 2 + 1, b.2.1, b.2.2.1, b.2.2.2) else (b.1, b.2.1, (b.2.2.1 + b.2.2.2) / 2 + 1, b.2.2.2)
theorem b_cs_pos {b : Bx} (h : b_gd b) : 1 ≤ b_cs b := by
  unfold b_gd q_gb at h
  have h1 := Int.mul_le_mul (show (1 : Int) ≤ b.2.1 - b.1 + 1 by omega) (show (1 : Int) ≤ b.2.2.2 - b.2.2.1 + 1 by omega) (by omega) (by omega)
  unfold b_cs
  omega
theorem b_cs_max {b : Bx} (h : b_gd b) : b_cs b ≤ 2047 := by
  unfold b_gd q_gb at h
  have h1 := Int.mul_le_mul (show b.2.1 - b.1 + 1 ≤ (32 : Int) by omega) (show b.2.2.2 - b.2.2.1 + 1 ≤ (32 : Int) by omega) (by omega) (by omega)
  unfold b_cs
  omega
theorem b_dp_max {b : Bx} (h : b_gd b) : b_dp 0 b := by
  unfold b_gd q_gb at h
  exact ⟨5, 5, by omega, by omega, by omega⟩
theorem b_halves {b : Bx} (h : b_gd b) (hn : ¬ b_pt b) :
    (b_gd (b_lf b) ∧ b_gd (b_rt b)) ∧ (b_cs (b_lf b) + b_cs (b_rt b) = b_cs b - 1) ∧
    (∀ x y, b_in b x y ↔ b_in (b_lf b) x y ∨ b_in (b_rt b) x y) ∧
    (∀ x y x' y', b_in (b_lf b) x y → b_in (b_rt b) x' y' → b_cd x y < b_cd x' y') ∧
    (∀ n, b_dp n b → b_dp (n + 1) (b_lf b) ∧ b_dp (n + 1) (b_rt b)) := by
  obtain ⟨a, c, d, e⟩ := b
  unfold b_gd q_gb at h
  unfold b_pt at hn
  dsimp only at h hn
  by_cases z : a < c
  · have eL : b_lf (a, c, d, e) = (a, (a + c) / 2, d, e) := if_pos z
    have eR : b_rt (a, c, d, e) = ((a + c) / 2 + 1, c, d, e) := if_pos z
    rw [eL, eR]
    refine ⟨⟨?_, ?_⟩, ?_, ?_, ?_, ?_⟩
    · unfold b_gd q_gb; dsimp only; omega
    · unfold b_gd q_gb; dsimp only; omega
    · unfold b_cs
      dsimp only
      have e1 : (c - a + 1) * (e - d + 1) = ((a + c) / 2 - a + 1) * (e - d + 1) + (c - ((a + c) / 2 + 1) + 1) * (e - d + 1) := by
        rw [← Int.add_mul]
        congr 1
        omega
      omega
    · intro x y
      unfold b_in q_in
      dsimp only
      omega
    · intro x y x' y'
      unfold b_in q_in b_cd
      dsimp only
      omega
    · rintro n ⟨p, q, h1, h2, h3⟩
      dsimp only at h2 h3
      cases p with
      | zero => exact absurd h2 (by rw [Int.pow_zero]; omega)
      | succ p =>
        rw [Int.pow_succ] at h2
        refine ⟨⟨p, q, by omega, ?_, h3⟩, ⟨p, q, by omega, ?_, h3⟩⟩
        · show (a + c) / 2 - a < 2 ^ p
          omega
        · show c - ((a + c) / 2 + 1) < 2 ^ p
          omega
  · have eL : b_lf (a, c, d, e) = (a, c, d, (d + e) / 2) := if_neg z
    have eR : b_rt (a, c, d, e) = (a, c, (d + e) / 2 + 1, e) := if_neg z
    have za : a = c := by omega
    rw [eL, eR]
    refine ⟨⟨?_, ?_⟩, ?_, ?_, ?_, ?_⟩
    · unfold b_gd q_gb; dsimp only; omega
    · unfold b_gd q_gb; dsimp only; omega
    · unfold b_cs
      dsimp only
      have e1 : (c - a + 1) * (e - d + 1) = (c - a + 1) * ((d + e) / 2 - d + 1) + (c - a + 1) * (e - ((d + e) / 2 + 1) + 1) := by
        rw [← Int.mul_add]
        congr 1
        omega
      omega
    · intro x y
      unfold b_in q_in
      dsimp only
      omega
    · intro x y x' y'
      unfold b_in q_in b_cd
      dsimp only
      omega
    · rintro n ⟨p, q, h1, h2, h3⟩
      dsimp only at h2 h3
      cases q with
      | zero => exact absurd h3 (by rw [Int.pow_zero]; omega)
      | succ q =>
        rw [Int.pow_succ] at h3
        refine ⟨⟨p, q, by omega, h2, ?_⟩, ⟨p, q, by omega, h2, ?_⟩⟩
        · show (d + e) / 2 - d < 2 ^ q
          omega
        · show e - ((d + e) / 2 + 1) < 2 ^ q
          omega
/-! the stack, its top first -/
def k_st (le ri bo tp : Nat → Int32) : List Bx → Prop
  | [] => True
  | b :: bs => (le bs.length = zi b.1 ∧ ri bs.length = zi b.2.1 ∧ bo bs.length = zi b.2.2.1 ∧ tp bs.length = zi b.2.2.2) ∧ k_st le ri bo tp bs
def k_ok : List Bx → Prop
  | [] => True
  | b :: bs => (b_gd b ∧ b_dp bs.length b) ∧ k_ok bs
def k_cost : List Bx → Int
  | [] => 0
  | b :: bs => b_cs b + k_cost bs
def k_cov : List Bx → Int → Int → Prop
  | [], _, _ => False
  | b :: bs, x, y => b_in b x y ∨ k_cov bs x y
def k_ord : List Bx → Prop
  | [] => True
  | b :: bs => (∀ x y x' y', b_in b x y → k_cov bs x' y' → b_cd x y < b_cd x' y') ∧ k_ord bs
theorem k_cost_nn : ∀ {l : List Bx}, k_ok l → 0 ≤ k_cost l
  | [], _ => Int.le_refl 0
  | b :: bs, h => by
    have h1 := b_cs_pos h.1.1
    have h2 := k_cost_nn h.2
    show 0 ≤ b_cs b + k_cost bs
    omega
/-- a store at or above the stack's height leaves it -/
theorem k_st_c {le ri bo tp le' ri' bo' tp' : Nat → Int32} : ∀ {l : List Bx}, k_st le ri bo tp l → (∀ j, j < l.length → le' j = le j ∧ ri' j = ri j ∧ bo' j = bo j ∧ tp' j = tp j) → k_st le' ri' bo' tp' l
  | [], _, _ => trivial
  | b :: bs, h, e => by
    obtain ⟨h1, h2, h3, h4⟩ := e bs.length (Nat.lt_succ_self _)
    refine ⟨?_, k_st_c h.2 (fun j hj => e j (Nat.lt_succ_of_lt hj))⟩
    rw [h1, h2, h3, h4]
    exact h.1
/-- a cut, on the stack -/
theorem k_cut {b : Bx} {bs : List Bx} (h : k_ok (b :: bs)) (hn : ¬ b_pt b) :
    k_ok (b_lf b :: b_rt b :: bs) ∧ k_cost (b_lf b :: b_rt b :: bs) = k_cost (b :: bs) - 1 ∧
    (∀ x y, k_cov (b :: bs) x y ↔ k_cov (b_lf b :: b_rt b :: bs) x y) ∧ (k_ord (b :: bs) → k_ord (b_lf b :: b_rt b :: bs)) ∧ bs.length + 1 ≤ 10 := by
  obtain ⟨⟨h1, h2⟩, h3⟩ := h
  obtain ⟨⟨g1, g2⟩, gc, gi, go, gd⟩ := b_halves h1 hn
  obtain ⟨d1, d2⟩ := gd _ h2
  refine ⟨⟨⟨g1, d1⟩, ⟨g2, ?_⟩, h3⟩, ?_, ?_, ?_, ?_⟩
  · obtain ⟨p, q, z1, z2, z3⟩ := d2
    exact ⟨p, q, by omega, z2, z3⟩
  · show b_cs (b_lf b) + (b_cs (b_rt b) + k_cost bs) = b_cs b + k_cost bs - 1
    omega
  · intro x y
    show b_in b x y ∨ k_cov bs x y ↔ b_in (b_lf b) x y ∨ b_in (b_rt b) x y ∨ k_cov bs x y
    rw [gi x y, or_assoc]
  · rintro ⟨o1, o2⟩
    refine ⟨?_, ?_, o2⟩
    · intro x y x' y' i1 i2
      rcases i2 with i2 | i2
      · exact go x y x' y' i1 i2
      · exact o1 x y x' y' ((gi x y).mpr (Or.inl i1)) i2
    · intro x y x' y' i1 i2
      exact o1 x y x' y' ((gi x y).mpr (Or.inr i1)) i2
  · obtain ⟨p, q, z1, _⟩ := d1
    omega
end
section
/-! ===== open, cut, isPoint; intervals ===== -/
theorem xc_cut {post : SX → Prop} {fw fb : Int32} {nm un lo hi f0 f1 re li le ri bo tp : Nat → Int32} {b : Bx} {bs : List Bx} (hs : k_st le ri bo tp (b :: bs)) (gd : b_gd b) (hn : ¬ b_pt b) (hk : bs.length + 1 ≤ 10)
    (hp : ∀ le' ri' bo' tp' : Nat → Int32, k_st le' ri' bo' tp' (b_lf b :: b_rt b :: bs) → post (nI (bs.length + 2), fb, nm, un, lo, hi, f0, f1, re, li, le', ri', bo', tp')) :
    wpX_cut post (fw, fb, nm, un, lo, hi, f0, f1, re, li, le, ri, bo, tp) (nI bs.length) := by
  obtain ⟨a, c, d, e⟩ := b
  obtain ⟨⟨eL, eR, eB, eT⟩, hs'⟩ := hs
  dsimp only at eL eR eB eT
  unfold b_gd q_gb at gd
  unfold b_pt at hn
  dsimp only at gd hn
  generalize hkk : bs.length = k at eL eR eB eT hk hp
  have hin : vp_in (nI k) 16 := vp_in_nI (by omega) (by decide)
  have hc : (nI k).toNatClampNeg = k := nI_clamp (by omega)
  have e1 : nI k + 1 = nI (k + 1) := nI_1 k
  have e2 : nI k + 2 = nI (k + 2) := nI_add k 2
  have i1 : vp_in (nI (k + 1)) 16 := vp_in_nI (by omega) (by decide)
  have c1 : (nI (k + 1)).toNatClampNeg = k + 1 := nI_clamp (by omega)
  have nk : k + 1 ≠ k := by omega
  have nk' : k ≠ k + 1 := by omega
  unfold wpX_cut
  dsimp only
  rw [hc, eL, eR]
  refine ⟨hin, hin, zi_iff (zi_le (by omega) (by omega) (by omega) (by omega)) (fun z => ?_) (fun z => ?_)⟩
  · have hbl : b_lf (a, c, d, e) = (a, c, d, (d + e) / 2) := if_neg (show ¬ a < c by omega)
    have hbr : b_rt (a, c, d, e) = (a, c, (d + e) / 2 + 1, e) := if_neg (show ¬ a < c by omega)
    unfold wX_cut_20
    rw [hc, eB, eT]
    refine br_t rfl ⟨hin, hin, br_f (fun y => ?_) ?_⟩
    · rw [zi_eq (by omega) (by omega) (by omega) (by omega)] at y
      omega
    unfold wX_cut_41
    rw [hc, eB]
    refine br_t rfl ⟨hin, ?_⟩
    unfold wX_cut_60
    rw [hc, eT]
    refine br_t rfl ⟨hin, ?_⟩
    unfold wX_cut_80
    rw [hc, e1, c1, eL, eR, zi_add, zi_shr1 (by omega) (by omega)]
    refine nm_e ⟨hin, i1, nm_e (br_t rfl ⟨hin, ?_⟩)⟩
    unfold wX_cut_126
    rw [hc, e1, c1, eB]
    refine ⟨i1, nm_e ⟨hin, i1, nm_e (br_t rfl ?_)⟩⟩
    unfold wX_cut_163
    rw [hc, c1]
    refine ⟨i1, nm_e (br_t rfl ⟨hin, ?_⟩)⟩
    unfold wX_cut_186
    rw [hc, e2]
    refine ⟨hin, nm_e (br_t rfl ⟨hin, nm_e (nm_e (hp _ _ _ _ ?_))⟩)⟩
    rw [hbl, hbr]
    refine ⟨?_, ?_, k_st_c hs' ?_⟩
    · simp only [List.length_cons, hkk, upd, if_pos, if_neg nk, and_self]
    · simp only [hkk, upd, if_pos, if_neg nk', eL, eR, eT, zi_1, zi_add, and_self]
    · intro j hj
      have n1 : j ≠ k := by omega
      have n2 : j ≠ k + 1 := by omega
      simp only [upd, if_neg n1, if_neg n2, and_self]
  · have hbl : b_lf (a, c, d, e) = (a, (a + c) / 2, d, e) := if_pos (show a < c by omega)
    have hbr : b_rt (a, c, d, e) = ((a + c) / 2 + 1, c, d, e) := if_pos (show a < c by omega)
    unfold wX_cut_20
    refine br_f xb_10 ?_
    unfold wX_cut_41
    rw [hc, eL]
    refine br_f xb_10 ⟨hin, ?_⟩
    unfold wX_cut_60
    rw [hc, eR]
    refine br_f xb_10 ⟨hin, ?_⟩
    unfold wX_cut_80
    rw [hc, e1, c1, eL, zi_add, zi_shr1 (by omega) (by omega)]
    refine nm_e ⟨hin, i1, nm_e (br_f xb_10 ?_)⟩
    unfold wX_cut_126
    rw [hc, e1, c1, eB, eT]
    refine ⟨i1, nm_e ⟨hin, i1, nm_e (br_f xb_10 ⟨hin, ?_⟩)⟩⟩
    unfold wX_cut_163
    rw [hc, c1]
    refine ⟨i1, nm_e (br_f xb_10 ?_)⟩
    unfold wX_cut_186
    rw [hc, e2]
    refine ⟨hin, nm_e (br_f xb_10 ⟨hin, hin, nm_e (nm_e (hp _ _ _ _ ?_))⟩)⟩
    rw [hbl, hbr]
    refine ⟨?_, ?_, k_st_c hs' ?_⟩
    · simp only [List.length_cons, hkk, upd, if_pos, if_neg nk, and_self]
    · simp only [hkk, upd, if_pos, if_neg nk', eR, eB, eT, zi_1, zi_add, and_self]
    · intro j hj
      have n1 : j ≠ k := by omega
      have n2 : j ≠ k + 1 := by omega
      simp only [upd, if_neg n1, if_neg n2, ite_self, and_self]
theorem xc_point {post : Int32 → Prop} {fw fb : Int32} {nm un lo hi f0 f1 re li le ri bo tp : Nat → Int32} {b : Bx} {bs : List Bx} (hs : k_st le ri bo tp (b :: bs)) (gd : b_gd b) (hk : bs.length ≤ 10) (h1 : b_pt b → post 1) (h0 : ¬ b_pt b → post 0) :
    wpX_isPoint post (fw, fb, nm, un, lo, hi, f0, f1, re, li, le, ri, bo, tp) (nI bs.length) := by
  obtain ⟨⟨eL, eR, eB, eT⟩, hs'⟩ := hs
  unfold b_gd q_gb at gd
  have hin : vp_in (nI bs.length) 16 := vp_in_nI (by omega) (by decide)
  have hc : (nI bs.length).toNatClampNeg = bs.length := nI_clamp (by omega)
  unfold wpX_isPoint
  dsimp only
  rw [hc, eL, eR, eB, eT]
  refine ⟨hin, hin, zi_iff (zi_eq (by omega) (by omega) (by omega) (by omega)) (fun z => ⟨hin, hin, zi_iff (zi_eq (by omega) (by omega) (by omega) (by omega)) (fun y => h1 ⟨z, y⟩) (fun y => h0 (fun q => y q.2))⟩) (fun z => h0 (fun q => z q.1))⟩
theorem iv_shr {a b : Nat} (ha : a < 32) (hb : b < 32) : nI (32 * a + b) >>> ((5 : Int32) &&& 31) = nI a :=
  (pk_shrN (by omega) _ 5 (by decide)).trans (congrArg nI (by omega))
theorem iv_and {a b : Nat} (ha : a < 32) (hb : b < 32) : nI (32 * a + b) &&& 31 = nI b :=
  (pk_andN (by omega) 5 (by decide)).trans (congrArg nI (by omega))
theorem iv_div {a b : Nat} (ha : a < 32) (hb : b < 32) : nI (32 * a + b) / 32 = nI a :=
  (pk_div (d := 32) (by omega) (by decide) (by decide)).trans (congrArg nI (by omega))
theorem iv_rem {a b : Nat} (ha : a < 32) (hb : b < 32) : nI (32 * a + b) - nI (32 * a + b) / 32 * 32 = nI b :=
  (pk_rem (d := 32) (by omega) (by decide) (by decide)).trans (congrArg nI (by omega))
theorem iv_m16 (a : Nat) : nI a - 16 = zi ((a : Int) - 16) := by rw [zi_nI, zi_16, zi_sub]
/-- a good interval, in both -/
theorem iv_xok {post : Int32 → Prop} {a b : Nat} (hab : a ≤ b) (hb : b < 32) (hp : post 1) : wpX_isInterval post (nI (32 * a + b)) := by
  unfold wpX_isInterval
  rw [iv_shr (by omega) hb, iv_and (by omega) hb]
  exact br_f (nI_pos (by omega)) (br_f (nI_nlt (b := 32 * a + b) (a := 1023) (by omega) (by decide)) (br_f (nI_nlt hab (by omega)) hp))
theorem iv_yok {post : Int32 → Prop} {v : SY} {a b : Nat} (hab : a ≤ b) (hb : b < 32) (hp : post 0) : wpY_badInterval post v (nI (32 * a + b)) := by
  unfold wpY_badInterval
  dsimp only
  rw [iv_rem (by omega) hb, iv_div (by omega) hb]
  exact br_f (nI_pos (by omega)) (br_f (nI_nlt (b := 32 * a + b) (a := 1023) (by omega) (by decide)) ⟨by decide, by decide, br_t (nI_le hab (by omega)) hp⟩)
/-- any int: a good interval, or bad in both -/
theorem iv_cases (p : Int32) : (∃ a b : Nat, a ≤ b ∧ b < 32 ∧ p = nI (32 * a + b)) ∨ ((∀ post : Int32 → Prop, post 0 → wpX_isInterval post p) ∧ (∀ (post : Int32 → Prop) (v : SY), post 1 → wpY_badInterval post v p)) := by
  by_cases h0 : p < 0
  · exact Or.inr ⟨fun post hp => br_t h0 hp, fun post v hp => br_t h0 hp⟩
  · obtain ⟨j, hj, rfl⟩ := nI_of h0
    by_cases h1 : 1023 < j
    · have h1' : (1023 : Int32) < nI j := nI_lt (a := 1023) h1 hj
      exact Or.inr ⟨fun post hp => br_f h0 (br_t h1' hp), fun post v hp => br_f h0 (br_t h1' hp)⟩
    · have h1' : ¬ (1023 : Int32) < nI j := nI_nlt (b := j) (a := 1023) (by omega) (by decide)
      obtain ⟨a, b, ha, hb, rfl⟩ : ∃ a b, a < 32 ∧ b < 32 ∧ j = 32 * a + b := ⟨j / 32, j % 32, by omega, by omega, by omega⟩
      by_cases h2 : a ≤ b
      · exact Or.inl ⟨a, b, h2, hb, rfl⟩
      · refine Or.inr ⟨fun post hp => ?_, fun post v hp => ?_⟩
        · unfold wpX_isInterval
          rw [iv_shr ha hb, iv_and ha hb]
          exact br_f h0 (br_f h1' (br_t (nI_lt (by omega) (by omega)) hp))
        · unfold wpY_badInterval
          dsimp only
          rw [iv_rem ha hb, iv_div ha hb]
          exact br_f h0 (br_f h1' ⟨by decide, by decide, br_f (nI_ge (by omega) (by omega)) hp⟩)
theorem iv_take {post : Int32 → SY → Prop} {w0 w1 w2 w3 : Int32} {nm : Nat → Int32} {a b c d : Nat} (hab : a ≤ b) (hb : b < 32) (hcd : c ≤ d) (hd : d < 32)
    (hp : post 1 (zi ((a : Int) - 16), zi ((b : Int) - 16), zi ((c : Int) - 16), zi ((d : Int) - 16), nm)) :
    wpY_take post (w0, w1, w2, w3, nm) (nI (32 * a + b)) (nI (32 * c + d)) := by
  unfold wpY_take
  dsimp only
  rw [iv_rem (by omega) hb, iv_div (by omega) hb, iv_rem (by omega) hd, iv_div (by omega) hd]
  refine iv_yok hab hb (br_t rfl (iv_yok hcd hd (br_t rfl ⟨by decide, nm_r (iv_m16 a) ⟨by decide, nm_r (iv_m16 b) ⟨by decide, nm_r (iv_m16 c) ⟨by decide, nm_r (iv_m16 d) hp⟩⟩⟩⟩)))
/-- take of a bad pair -/
theorem iv_take0 {post : Int32 → SY → Prop} {w0 w1 w2 w3 : Int32} {nm : Nat → Int32} {p q : Int32} (h : (∀ (post : Int32 → Prop) (v : SY), post 1 → wpY_badInterval post v p) ∨ ((∃ a b : Nat, a ≤ b ∧ b < 32 ∧ p = nI (32 * a + b)) ∧ (∀ (post : Int32 → Prop) (v : SY), post 1 → wpY_badInterval post v q)))
    (hp : post 0 (w0, w1, w2, w3, nm)) : wpY_take post (w0, w1, w2, w3, nm) p q := by
  unfold wpY_take
  dsimp only
  rcases h with h | ⟨⟨a, b, hab, hb, rfl⟩, h⟩
  · exact h _ _ (br_f xb_10 hp)
  · exact iv_yok hab hb (br_t rfl (h _ _ (br_f xb_10 hp)))
theorem xc_open {post : SX → Prop} {fw fb : Int32} {nm un lo hi f0 f1 re li le ri bo tp : Nat → Int32} {a b c d : Nat} (hab : a ≤ b) (hb : b < 32) (hcd : c ≤ d) (hd : d < 32)
    (hp : post (1, fb, nm, un, lo, hi, f0, f1, re, li, upd le 0 (zi ((a : Int) - 16)), upd ri 0 (zi ((b : Int) - 16)), upd bo 0 (zi ((c : Int) - 16)), upd tp 0 (zi ((d : Int) - 16)))) :
    wpX_open post (fw, fb, nm, un, lo, hi, f0, f1, re, li, le, ri, bo, tp) (nI (32 * a + b)) (nI (32 * c + d)) := by
  unfold wpX_open
  dsimp only
  rw [iv_shr (by omega) hb, iv_and (by omega) hb, iv_shr (by omega) hd, iv_and (by omega) hd, iv_m16, iv_m16, iv_m16, iv_m16]
  exact nm_e (nm_e (nm_e (nm_e hp)))
end
section
/-! ===== the component's extreme ===== -/
def s_max (g : Int → Int → Int) (B : Bx) (M : Int) : Prop := (∃ x y, b_in B x y ∧ g x y = M) ∧ ∀ x y, b_in B x y → g x y ≤ M
theorem s_max_u {g : Int → Int → Int} {B : Bx} {M N : Int} (h : s_max g B M) (h' : s_max g B N) : M = N := by
  obtain ⟨⟨x, y, hi, e⟩, hm⟩ := h
  obtain ⟨⟨x', y', hi', e'⟩, hm'⟩ := h'
  have h1 := hm _ _ hi'
  have h2 := hm' _ _ hi
  omega
theorem b_in_r {B : Bx} (gB : b_gd B) {x y : Int} (h : b_in B x y) : (-16 ≤ x ∧ x ≤ 16) ∧ (-16 ≤ y ∧ y ≤ 16) := by
  unfold b_gd q_gb at gB
  unfold b_in q_in at h
  omega
theorem sg_b {sg v : Int} (hsg : sg = 1 ∨ sg = -1) (h : -32050 ≤ v ∧ v ≤ 32050) : -32050 ≤ sg * v ∧ sg * v ≤ 32050 := by
  rcases hsg with rfl | rfl <;> omega
theorem xe_loop {post : Int32 → SX → Prop} {nm : Nat → Int32} {w : Nat → Int} (hw : ∀ j, nm j = zi (w j)) (ok : q_ok w) {t : Nat} (ht : t < 6) {sg : Int} (hsg : sg = 1 ∨ sg = -1) {B : Bx} (gB : b_gd B)
    (hp : ∀ (M : Int) (u' : SX), s_max (fun x y => sg * q_sm w t x y) B M → u'.2.2.1 = nm → post (zi M) u') :
    ∀ (n step : Nat) (l : List Bx) (best : Int) (un lo hi f0 f1 re li le ri bo tp : Nat → Int32), 2048 < n + step → (step : Int) + k_cost l ≤ 2047 → k_ok l → k_st le ri bo tp l →
      (∀ x y, b_in B x y → sg * q_sm w t x y ≤ best ∨ k_cov l x y) → (∃ x y, b_in B x y ∧ sg * q_sm w t x y = best) → (∀ x y, k_cov l x y → b_in B x y) →
      wX_extreme_38 post (nI t) (zi sg) n (nI step) (nI l.length) (zi best) nm un lo hi f0 f1 re li le ri bo tp := by
  intro n
  induction n with
  | zero =>
    intro step l best un lo hi f0 f1 re li le ri bo tp hn hcost hok
    have := k_cost_nn hok
    omega
  | succ n ih =>
    intro step l best un lo hi f0 f1 re li le ri bo tp hn hcost hok hst hcov hbest hsub
    have hcn := k_cost_nn hok
    have hbb : -32050 ≤ best ∧ best ≤ 32050 := by
      obtain ⟨x, y, hi, e⟩ := hbest
      have r := b_in_r gB hi
      rw [← e]
      exact sg_b hsg (q_sm_b ok t r.1 r.2)
    simp only [wX_extreme_38]
    refine br_f (nI_ge (b := 2048) (by omega) (by decide)) ?_
    cases l with
    | nil =>
      refine br_t (by decide) (hp best _ ⟨hbest, fun x y h => ?_⟩ rfl)
      rcases hcov x y h with z | z
      · exact z
      · exact z.elim
    | cons b bs =>
      obtain ⟨⟨gb, dp⟩, hok'⟩ := hok
      have hlen : bs.length ≤ 10 := by
        obtain ⟨p, q, h, _⟩ := dp
        omega
      obtain ⟨⟨eL, eR, eB, eT⟩, hst'⟩ := hst
      have hin : vp_in (nI bs.length) 16 := vp_in_nI (by omega) (by decide)
      have hc : (nI bs.length).toNatClampNeg = bs.length := nI_clamp (by omega)
      have hint : vp_in (nI t) 6 := vp_in_nI ht (by decide)
      have hct : (nI t).toNatClampNeg = t := nI_clamp (by omega)
      have hcs := b_cs_pos gb
      have hcost' : (step : Int) + (b_cs b + k_cost bs) ≤ 2047 := hcost
      have hcn' := k_cost_nn hok'
      refine br_f (nI_nle (n := bs.length + 1) (by omega) (by omega)) ?_
      refine nm_r (e' := nI bs.length) (nI_pred _) ⟨hin, hin, hin, hin, ?_⟩
      rw [hc, eL, eR, eB, eT]
      refine xg_range hw ok gb ?_
      intro lo' hi' f0' f1' re' li' hrow
      dsimp only
      have key : ∀ bound : Int, (∀ x y, b_in b x y → sg * q_sm w t x y ≤ bound) → (-100000 ≤ bound ∧ bound ≤ 100000) → ((¬ li' t = 0 ∨ b_pt b) → ∃ x y, b_in b x y ∧ sg * q_sm w t x y = bound) →
          wX_extreme_122 post (wX_extreme_38 post (nI t) (zi sg) n) (nI t) (zi sg) (nI step) (nI bs.length) (zi bound) (nI bs.length) (zi best) nm un lo' hi' f0' f1' re' li' le ri bo tp := by
        intro bound hup hbd hatt
        have hacc : (¬ li' t = 0 ∨ b_pt b) → best < bound → wX_extreme_38 post (nI t) (zi sg) n (nI (step + 1)) (nI bs.length) (zi bound) nm un lo' hi' f0' f1' re' li' le ri bo tp := by
          intro hz hlt
          refine ih (step + 1) bs bound _ _ _ _ _ _ _ _ _ _ _ (by omega) (by omega) hok' hst' ?_ ?_ ?_
          · intro x y h
            rcases hcov x y h with z | z | z
            · exact Or.inl (by omega)
            · exact Or.inl (hup x y z)
            · exact Or.inr z
          · obtain ⟨x, y, h1, h2⟩ := hatt hz
            exact ⟨x, y, hsub x y (Or.inl h1), h2⟩
          · exact fun x y h => hsub x y (Or.inr h)
        unfold wX_extreme_122
        rw [hct]
        refine zi_iff (zi_le (by omega) (by omega) (by omega) (by omega)) (fun z => nm_r (nI_1 step) ?_) (fun z => ⟨hint, br_c (fun zl => ?_) (fun zl => nm_r (nI_1 step) (hacc (Or.inl zl) (by omega)))⟩)
        · refine ih (step + 1) bs best _ _ _ _ _ _ _ _ _ _ _ (by omega) (by omega) hok' hst' ?_ hbest ?_
          · intro x y h
            rcases hcov x y h with z1 | z1 | z1
            · exact Or.inl z1
            · have := hup x y z1
              exact Or.inl (by omega)
            · exact Or.inr z1
          · exact fun x y h => hsub x y (Or.inr h)
        · refine xc_point (b := b) (bs := bs) ⟨⟨eL, eR, eB, eT⟩, hst'⟩ gb hlen (fun hpt => br_f xb_10 (nm_r (nI_1 step) (hacc (Or.inr hpt) (by omega)))) (fun hpt => br_t rfl ?_)
          obtain ⟨k1, k2, k3, k4, k5⟩ := k_cut (b := b) (bs := bs) ⟨⟨gb, dp⟩, hok'⟩ hpt
          refine xc_cut (b := b) (bs := bs) ⟨⟨eL, eR, eB, eT⟩, hst'⟩ gb hpt k5 ?_
          intro le' ri' bo' tp' hst2
          dsimp only
          refine nm_r (nI_1 step) ?_
          refine ih (step + 1) (b_lf b :: b_rt b :: bs) best _ _ _ _ _ _ _ _ _ _ _ (by omega) ?_ k1 hst2 ?_ hbest ?_
          · rw [k2]
            show ((step + 1 : Nat) : Int) + (b_cs b + k_cost bs - 1) ≤ 2047
            omega
          · intro x y h
            rcases hcov x y h with z1 | z1
            · exact Or.inl z1
            · exact Or.inr ((k3 x y).mp z1)
          · exact fun x y h => hsub x y ((k3 x y).mpr h)
      obtain ⟨L, H, eLo, eHi, hbd, hr, hl, hpt⟩ := hrow t ht
      have hptx : b_pt b → b_in b b.1 b.2.2.1 := by
        intro z
        unfold b_gd q_gb at gb
        unfold b_in q_in
        omega
      rw [hct, eLo, eHi]
      rcases hsg with rfl | rfl
      · refine br_f (by decide) ⟨hint, ?_⟩
        refine key H (fun x y h => ?_) (by omega) (fun z => ?_)
        · have := hr x y h
          omega
        · rcases z with z | z
          · obtain ⟨_, x, y, h1, h2⟩ := hl z
            exact ⟨x, y, h1, by omega⟩
          · have e := hpt z.1 z.2
            have := hr _ _ (hptx z)
            exact ⟨_, _, hptx z, by omega⟩
      · refine br_t (by decide) ⟨hint, ?_⟩
        rw [zi_neg]
        refine key (-L) (fun x y h => ?_) (by omega) (fun z => ?_)
        · have := hr x y h
          omega
        · rcases z with z | z
          · obtain ⟨⟨x, y, h1, h2⟩, _⟩ := hl z
            exact ⟨x, y, h1, by omega⟩
          · have e := hpt z.1 z.2
            have := hr _ _ (hptx z)
            exact ⟨_, _, hptx z, by omega⟩
/-- the box of two interval codes -/
def b_of (a b c d : Nat) : Bx := ((a : Int) - 16, (b : Int) - 16, (c : Int) - 16, (d : Int) - 16)
theorem b_of_gd {a b c d : Nat} (hab : a ≤ b) (hb : b < 32) (hcd : c ≤ d) (hd : d < 32) : b_gd (b_of a b c d) := by
  unfold b_gd q_gb b_of
  dsimp only
  omega
theorem b_of_ll {a b c d : Nat} (hab : a ≤ b) (hcd : c ≤ d) : b_in (b_of a b c d) ((a : Int) - 16) ((c : Int) - 16) := by
  unfold b_in q_in b_of
  dsimp only
  omega
theorem xe_extreme {post : Int32 → SX → Prop} {fw fb : Int32} {nm un lo hi f0 f1 re li le ri bo tp : Nat → Int32} {w : Nat → Int} (hw : ∀ j, nm j = zi (w j)) (ok : q_ok w) {t : Nat} (ht : t < 6) {sg : Int} (hsg : sg = 1 ∨ sg = -1)
    {a b c d : Nat} (hab : a ≤ b) (hb : b < 32) (hcd : c ≤ d) (hd : d < 32)
    (hp : ∀ (M : Int) (u' : SX), s_max (fun x y => sg * q_sm w t x y) (b_of a b c d) M → u'.2.2.1 = nm → post (zi M) u') :
    wpX_extreme post (fw, fb, nm, un, lo, hi, f0, f1, re, li, le, ri, bo, tp) (nI (32 * a + b)) (nI (32 * c + d)) (nI t) (zi sg) := by
  have hint : vp_in (nI t) 6 := vp_in_nI ht (by decide)
  have hct : (nI t).toNatClampNeg = t := nI_clamp (by omega)
  have gB := b_of_gd hab hb hcd hd
  unfold wpX_extreme
  dsimp only
  refine xc_open hab hb hcd hd ?_
  dsimp only
  rw [pk_us, pk_us]
  refine xw_work hw ok (by omega) (by omega) ?_
  intro un' hun
  dsimp only
  rw [hct, hun t ht, zi_mul]
  refine ⟨hint, nm_e ⟨2049, ?_⟩⟩
  have h1 := b_cs_max gB
  refine xe_loop hw ok ht hsg gB hp 2049 0 [b_of a b c d] _ _ _ _ _ _ _ _ _ _ _ _ (by omega) ?_ ⟨⟨gB, b_dp_max gB⟩, trivial⟩ ⟨⟨pk_us, pk_us, pk_us, pk_us⟩, trivial⟩ ?_ ?_ ?_
  · show ((0 : Nat) : Int) + (b_cs (b_of a b c d) + 0) ≤ 2047
    omega
  · exact fun x y h => Or.inr (Or.inl h)
  · exact ⟨_, _, b_of_ll hab hcd, rfl⟩
  · rintro x y (h | h)
    · exact h
    · exact h.elim
end
section
/-! ===== the component's firstAbove ===== -/
def s_fa (g : Int → Int → Int) (B : Bx) (lim : Int) (r : Int32) : Prop :=
  (r = -2 ∧ ∀ x y, b_in B x y → g x y ≤ lim) ∨
  (∃ x y, b_in B x y ∧ lim < g x y ∧ r = zi (b_cd x y) ∧ ∀ x' y', b_in B x' y' → lim < g x' y' → b_cd x y ≤ b_cd x' y')
theorem s_fa_u {g : Int → Int → Int} {B : Bx} {lim : Int} {r r' : Int32} (h : s_fa g B lim r) (h' : s_fa g B lim r') : r = r' := by
  rcases h with ⟨e, h⟩ | ⟨x, y, hi, hl, e, hm⟩
  · rcases h' with ⟨e', h'⟩ | ⟨x', y', hi', hl', e', hm'⟩
    · rw [e, e']
    · have := h x' y' hi'
      omega
  · rcases h' with ⟨e', h'⟩ | ⟨x', y', hi', hl', e', hm'⟩
    · have := h' x y hi
      omega
    · have h1 := hm x' y' hi' hl'
      have h2 := hm' x y hi hl
      rw [e, e']
      exact congrArg zi (by omega)
theorem b_cd_b {B : Bx} (gB : b_gd B) {x y : Int} (h : b_in B x y) : 0 ≤ b_cd x y ∧ b_cd x y ≤ 1023 := by
  unfold b_gd q_gb at gB
  unfold b_in q_in at h
  unfold b_cd
  omega
/-- the answer is -2, or it is not negative -/
theorem s_fa_n {g : Int → Int → Int} {B : Bx} (gB : b_gd B) {lim : Int} {r : Int32} (h : s_fa g B lim r) : (r = -2 ∧ r < 0 ∧ ∀ x y, b_in B x y → g x y ≤ lim) ∨ (r ≠ -2 ∧ ¬ r < 0 ∧ ∃ x y, b_in B x y ∧ lim < g x y) := by
  rcases h with ⟨e, h⟩ | ⟨x, y, hi, hl, e, hm⟩
  · exact Or.inl ⟨e, by rw [e]; decide, h⟩
  · have hb := b_cd_b gB hi
    refine Or.inr ⟨?_, ?_, x, y, hi, hl⟩
    · rw [e, zi_m2]
      intro z
      rw [zi_eq (by omega) (by omega) (by omega) (by omega)] at z
      omega
    · rw [e, zi_lt0 (by omega) (by omega)]
      omega
theorem xf_loop {post : Int32 → SX → Prop} {nm : Nat → Int32} {w : Nat → Int} (hw : ∀ j, nm j = zi (w j)) (ok : q_ok w) {x3 : Int32} {B : Bx}
    (hp : ∀ (r : Int32) (u' : SX), s_fa (q_sm w 5) B x3.toInt r → u'.2.2.1 = nm → post r u') :
    ∀ (n step : Nat) (l : List Bx) (fb : Int32) (un lo hi f0 f1 re li le ri bo tp : Nat → Int32), 2048 < n + step → (step : Int) + k_cost l ≤ 2047 → k_ok l → k_st le ri bo tp l → k_ord l →
      (∀ x y, b_in B x y → x3.toInt < q_sm w 5 x y → k_cov l x y) → (∀ x y, k_cov l x y → b_in B x y) →
      wX_firstAbove_9 post x3 n (nI step) (nI l.length) fb nm un lo hi f0 f1 re li le ri bo tp := by
  intro n
  induction n with
  | zero =>
    intro step l fb un lo hi f0 f1 re li le ri bo tp hn hcost hok
    have := k_cost_nn hok
    omega
  | succ n ih =>
    intro step l fb un lo hi f0 f1 re li le ri bo tp hn hcost hok hst hord hcov hsub
    have hcn := k_cost_nn hok
    simp only [wX_firstAbove_9]
    refine br_f (nI_ge (b := 2048) (by omega) (by decide)) ?_
    cases l with
    | nil =>
      refine br_t (by decide) (hp _ _ (Or.inl ⟨rfl, fun x y h => ?_⟩) rfl)
      by_cases z : x3.toInt < q_sm w 5 x y
      · exact (hcov x y h z).elim
      · omega
    | cons b bs =>
      obtain ⟨⟨gb, dp⟩, hok'⟩ := hok
      have hlen : bs.length ≤ 10 := by
        obtain ⟨p, q, h, _⟩ := dp
        omega
      obtain ⟨⟨eL, eR, eB, eT⟩, hst'⟩ := hst
      have hin : vp_in (nI bs.length) 16 := vp_in_nI (by omega) (by decide)
      have hc : (nI bs.length).toNatClampNeg = bs.length := nI_clamp (by omega)
      have hcs := b_cs_pos gb
      have hcost' : (step : Int) + (b_cs b + k_cost bs) ≤ 2047 := hcost
      have hcn' := k_cost_nn hok'
      refine br_f (nI_nle (n := bs.length + 1) (by omega) (by omega)) ?_
      refine nm_r (e' := nI bs.length) (nI_pred _) ⟨hin, hin, hin, hin, ?_⟩
      rw [hc, eL, eR, eB, eT]
      refine xg_range hw ok gb ?_
      intro lo' hi' f0' f1' re' li' hrow
      dsimp only
      obtain ⟨L, H, eLo, eHi, hbd, hr, hl, hpt⟩ := hrow 5 (by omega)
      rw [eHi]
      refine zi_iff (zi_lex (by omega) (by omega)) (fun z => nm_r (nI_1 step) ?_) (fun z => ?_)
      · refine ih (step + 1) bs fb _ _ _ _ _ _ _ _ _ _ _ (by omega) (by omega) hok' hst' hord.2 ?_ ?_
        · intro x y h h2
          rcases hcov x y h h2 with z1 | z1
          · have := hr x y z1
            omega
          · exact z1
        · exact fun x y h => hsub x y (Or.inr h)
      · refine xc_point (b := b) (bs := bs) ⟨⟨eL, eR, eB, eT⟩, hst'⟩ gb hlen (fun hp2 => br_f xb_10 ⟨hin, hin, ?_⟩) (fun hp2 => br_t rfl ?_)
        · have hb : b_in b b.1 b.2.2.1 := by
            unfold b_gd q_gb at gb
            unfold b_in q_in
            omega
          have hv := hr _ _ hb
          have he := hpt hp2.1 hp2.2
          refine hp _ _ (Or.inr ⟨b.1, b.2.2.1, hsub _ _ (Or.inl hb), by omega, ?_, ?_⟩) rfl
          · rw [eL, eB, zi_16, zi_add, zi_32, zi_mul, zi_add, zi_add]
            rfl
          · intro x' y' h1 h2
            rcases hcov x' y' h1 h2 with z1 | z1
            · unfold b_in q_in at z1
              unfold b_pt at hp2
              have ex : x' = b.1 := by omega
              have ey : y' = b.2.2.1 := by omega
              rw [ex, ey]
              exact Int.le_refl _
            · exact Int.le_of_lt (hord.1 _ _ _ _ hb z1)
        · obtain ⟨k1, k2, k3, k4, k5⟩ := k_cut (b := b) (bs := bs) ⟨⟨gb, dp⟩, hok'⟩ hp2
          refine xc_cut (b := b) (bs := bs) ⟨⟨eL, eR, eB, eT⟩, hst'⟩ gb hp2 k5 ?_
          intro le' ri' bo' tp' hst2
          dsimp only
          refine nm_r (nI_1 step) ?_
          refine ih (step + 1) (b_lf b :: b_rt b :: bs) fb _ _ _ _ _ _ _ _ _ _ _ (by omega) ?_ k1 hst2 (k4 hord) ?_ ?_
          · rw [k2]
            show ((step + 1 : Nat) : Int) + (b_cs b + k_cost bs - 1) ≤ 2047
            omega
          · exact fun x y h h2 => (k3 x y).mp (hcov x y h h2)
          · exact fun x y h => hsub x y ((k3 x y).mpr h)
theorem xf_above {post : Int32 → SX → Prop} {fw fb : Int32} {nm un lo hi f0 f1 re li le ri bo tp : Nat → Int32} {w : Nat → Int} (hw : ∀ j, nm j = zi (w j)) (ok : q_ok w) {x3 : Int32}
    {a b c d : Nat} (hab : a ≤ b) (hb : b < 32) (hcd : c ≤ d) (hd : d < 32)
    (hp : ∀ (r : Int32) (u' : SX), s_fa (q_sm w 5) (b_of a b c d) x3.toInt r → u'.2.2.1 = nm → post r u') :
    wpX_firstAbove post (fw, fb, nm, un, lo, hi, f0, f1, re, li, le, ri, bo, tp) (nI (32 * a + b)) (nI (32 * c + d)) x3 := by
  have gB := b_of_gd hab hb hcd hd
  unfold wpX_firstAbove
  dsimp only
  refine xc_open hab hb hcd hd ?_
  dsimp only
  refine ⟨2049, ?_⟩
  have h1 := b_cs_max gB
  refine xf_loop hw ok hp 2049 0 [b_of a b c d] _ _ _ _ _ _ _ _ _ _ _ _ (by omega) ?_ ⟨⟨gB, b_dp_max gB⟩, trivial⟩ ⟨⟨pk_us, pk_us, pk_us, pk_us⟩, trivial⟩ ⟨fun _ _ _ _ _ h => h.elim, trivial⟩ ?_ ?_
  · show ((0 : Nat) : Int) + (b_cs (b_of a b c d) + 0) ≤ 2047
    omega
  · exact fun x y h _ => Or.inl h
  · rintro x y (h | h)
    · exact h
    · exact h.elim
end
section
/-! ===== patterns ===== -/
def p_m (f : Nat → Bool) : Nat → Int32
  | 0 => 0
  | k + 1 => if f k = true then p_m f k ||| ((1 : Int32) <<< (nI k &&& 31)) else p_m f k
theorem p_m_c {f g : Nat → Bool} : ∀ n, (∀ t, t < n → f t = g t) → p_m f n = p_m g n
  | 0, _ => rfl
  | n + 1, h => by
    have e := p_m_c n (fun t ht => h t (by omega))
    show (if f n = true then p_m f n ||| ((1 : Int32) <<< (nI n &&& 31)) else p_m f n) = (if g n = true then p_m g n ||| ((1 : Int32) <<< (nI n &&& 31)) else p_m g n)
    rw [e, h n (by omega)]
def p_v (a b c d e : Bool) : Nat := (if a = true then 1 else 0) + (if b = true then 2 else 0) + (if c = true then 4 else 0) + (if d = true then 8 else 0) + (if e = true then 16 else 0)
def p_5 (a b c d e : Bool) : Int32 := p_m (fun t => match t with | 0 => a | 1 => b | 2 => c | 3 => d | _ => e) 5
theorem p_5v : ∀ a b c d e : Bool, p_5 a b c d e = nI (p_v a b c d e) ∧ p_v a b c d e < 32 := by decide +kernel
theorem p_m5 (f : Nat → Bool) : ∃ j, j < 32 ∧ p_m f 5 = nI j := by
  have e : p_m f 5 = p_5 (f 0) (f 1) (f 2) (f 3) (f 4) := p_m_c 5 (fun t ht => by
    have ht' : t = 0 ∨ t = 1 ∨ t = 2 ∨ t = 3 ∨ t = 4 := by omega
    rcases ht' with rfl | rfl | rfl | rfl | rfl <;> rfl)
  have h := p_5v (f 0) (f 1) (f 2) (f 3) (f 4)
  exact ⟨_, h.2, e.trans h.1⟩
/-- the pattern at a point -/
def p_pat (w : Nat → Int) (x y : Int) : Int32 := p_m (fun t => decide (0 < q_sm w t x y)) 5
def s_pt (w : Nat → Int) (B : Bx) (s : Int32) : Prop := ∀ p, p < 32 → (bt s p = true ↔ ∃ x y, b_in B x y ∧ p_pat w x y = nI p)
theorem s_pt_u {w : Nat → Int} {B : Bx} {s s' : Int32} (h : s_pt w B s) (h' : s_pt w B s') : s = s' := by
  apply b_ext
  intro i hi
  have e := (h i hi).trans (h' i hi).symm
  cases z : bt s i <;> cases z' : bt s' i
  · rfl
  · rw [z, z'] at e
    exact absurd (e.mpr rfl) (by decide)
  · rw [z, z'] at e
    exact absurd (e.mp rfl) (by decide)
  · rfl
theorem p_one : ∀ j, j < 32 → ∀ i, i < 32 → bt ((1 : Int32) <<< (nI j &&& 31)) i = decide (i = j) := by decide +kernel
theorem p_set (s : Int32) {j i : Nat} (hj : j < 32) (hi : i < 32) : bt (s ||| ((1 : Int32) <<< (nI j &&& 31))) i = true ↔ bt s i = true ∨ i = j := by
  rw [b_or, p_one j hj i hi, Bool.or_eq_true, decide_eq_true_eq]
/-- bits counted -/
def p_bit (s : Int32) (p : Nat) : Int32 := if bt s p = true then 1 else 0
def p_ct (s : Int32) : Nat → Int32
  | 0 => 0
  | p + 1 => p_ct s p + p_bit s p
theorem p_b1 (i : Nat) : bt 1 i = decide (i = 0) := by
  rcases Nat.lt_or_ge i 32 with h | h
  · exact (by decide +kernel : ∀ i, i < 32 → bt 1 i = decide (i = 0)) i h
  · rw [b_big h, decide_eq_false (by omega)]
theorem p_and1 (x : Int32) (p : Nat) (s : Int32) (h : bt x 0 = bt s p) : x &&& 1 = p_bit s p := by
  apply b_ext
  intro i hi
  rw [b_and, p_b1]
  unfold p_bit
  by_cases z : i = 0
  · subst z
    rw [h]
    cases bt s p
    · rfl
    · rfl
  · rw [decide_eq_false z, Bool.and_false]
    split
    · rw [p_b1, decide_eq_false z]
    · rw [b_0]
theorem p_ushr (s : Int32) {p : Nat} (hp : p < 32) : ((s.toUInt32 >>> ((nI p).toUInt32 &&& Int32.toUInt32 31)).toInt32) &&& 1 = p_bit s p :=
  p_and1 _ p s (by rw [b_ushr p hp]; rfl)
theorem p_sshr (s : Int32) {p : Nat} (hp : p < 32) : (s >>> (nI p &&& 31)) &&& 1 = p_bit s p :=
  p_and1 _ p s (by rw [b_sshr p hp s (by decide), if_pos (by omega)]; rfl)
theorem xp_count {post : Int32 → SX → Prop} {fw fb : Int32} {nm un lo hi f0 f1 re li le ri bo tp : Nat → Int32} {s : Int32} (hp : post (p_ct s 32) (fw, fb, nm, un, lo, hi, f0, f1, re, li, le, ri, bo, tp)) : ∀ d p : Nat, p + d = 32 → wX_patterns_129 post s fw fb nm un lo hi f0 f1 re li le ri bo tp (d + 1) (p_ct s p) (nI p) := by
  intro d
  induction d with
  | zero =>
    intro p h
    obtain rfl : p = 32 := by omega
    simp only [wX_patterns_129]
    exact br_t (by decide) hp
  | succ d ih =>
    intro p h
    simp only [wX_patterns_129]
    rw [p_ushr s (by omega)]
    exact br_f (nI_ge (b := 32) (by omega) (by decide)) (nm_e (nm_r (nI_1 p) (ih (p + 1) (by omega))))
theorem xp_of {post : Int32 → Prop} {fw fb : Int32} {nm un lo hi f0 f1 re li le ri bo tp : Nat → Int32} (h1 : (∃ t, t < 5 ∧ (lo t).toInt ≤ 0 ∧ 0 < (hi t).toInt) → post (-1)) (h2 : (∀ t, t < 5 → 0 < (lo t).toInt ∨ (hi t).toInt ≤ 0) → post (p_m (fun t => decide (0 < (lo t).toInt)) 5)) :
    ∀ d k : Nat, k + d = 5 → (∀ t, t < k → 0 < (lo t).toInt ∨ (hi t).toInt ≤ 0) → wX_patternOf_4 post fw fb nm un lo hi f0 f1 re li le ri bo tp (d + 1) (p_m (fun t => decide (0 < (lo t).toInt)) k) (nI k) := by
  have z0 : (0 : Int32).toInt = 0 := by decide
  intro d
  induction d with
  | zero =>
    intro k h hk
    obtain rfl : k = 5 := by omega
    simp only [wX_patternOf_4]
    exact br_t (by decide) (h2 hk)
  | succ d ih =>
    intro k h hk
    have hin : vp_in (nI k) 6 := vp_in_nI (by omega) (by decide)
    have hc : (nI k).toNatClampNeg = k := nI_clamp (by omega)
    have cl : lo k ≤ 0 ↔ (lo k).toInt ≤ 0 := by rw [Int32.le_iff_toInt_le, z0]
    have ch : hi k ≤ 0 ↔ (hi k).toInt ≤ 0 := by rw [Int32.le_iff_toInt_le, z0]
    have e : p_m (fun t => decide (0 < (lo t).toInt)) (k + 1) = if decide (0 < (lo k).toInt) = true then p_m (fun t => decide (0 < (lo t).toInt)) k ||| ((1 : Int32) <<< (nI k &&& 31)) else p_m (fun t => decide (0 < (lo t).toInt)) k := rfl
    simp only [wX_patternOf_4, hc]
    refine br_f (nI_ge (b := 5) (by omega) (by decide)) ⟨hin, zi_iff cl (fun z => ⟨hin, zi_iff ch (fun y => nm_r (nI_1 k) ?_) (fun y => h1 ⟨k, by omega, z, by omega⟩)⟩) (fun z => ?_)⟩
    · have := ih (k + 1) (by omega) (lt_s hk (Or.inr y))
      rw [e, if_neg (by rw [decide_eq_true_eq]; omega)] at this
      exact this
    · have := ih (k + 1) (by omega) (lt_s hk (Or.inl (by omega)))
      rw [e, if_pos (by rw [decide_eq_true_eq]; omega)] at this
      exact nm_e (nm_r (nI_1 k) this)
theorem xp_loop {post : Int32 → SX → Prop} {nm : Nat → Int32} {w : Nat → Int} (hw : ∀ j, nm j = zi (w j)) (ok : q_ok w) {B : Bx}
    (hp : ∀ (s : Int32) (u' : SX), s_pt w B s → u'.2.2.1 = nm → post (p_ct s 32) u') :
    ∀ (n step : Nat) (l : List Bx) (s fb : Int32) (un lo hi f0 f1 re li le ri bo tp : Nat → Int32), 2048 < n + step → (step : Int) + k_cost l ≤ 2047 → k_ok l → k_st le ri bo tp l →
      (∀ p, p < 32 → bt s p = true → ∃ x y, b_in B x y ∧ p_pat w x y = nI p) →
      (∀ x y, b_in B x y → (∃ p, p < 32 ∧ p_pat w x y = nI p ∧ bt s p = true) ∨ k_cov l x y) → (∀ x y, k_cov l x y → b_in B x y) →
      wX_patterns_27 post n s (nI step) (nI l.length) fb nm un lo hi f0 f1 re li le ri bo tp := by
  intro n
  induction n with
  | zero =>
    intro step l s fb un lo hi f0 f1 re li le ri bo tp hn hcost hok
    have := k_cost_nn hok
    omega
  | succ n ih =>
    intro step l s fb un lo hi f0 f1 re li le ri bo tp hn hcost hok hst hsnd hcov hsub
    have hcn := k_cost_nn hok
    simp only [wX_patterns_27]
    refine br_f (nI_ge (b := 2048) (by omega) (by decide)) ?_
    cases l with
    | nil =>
      refine br_t (by decide) ⟨33, xp_count (s := s) (hp s _ ?_ rfl) 32 0 (by omega)⟩
      intro p hp32
      refine ⟨hsnd p hp32, ?_⟩
      rintro ⟨x, y, h1, h2⟩
      rcases hcov x y h1 with ⟨p', hp', e', hb'⟩ | z
      · have : nI p = nI p' := h2.symm.trans e'
        rw [nI_eq (by omega) (by omega)] at this
        rw [this]
        exact hb'
      · exact z.elim
    | cons b bs =>
      obtain ⟨⟨gb, dp⟩, hok'⟩ := hok
      have hlen : bs.length ≤ 10 := by
        obtain ⟨p, q, h, _⟩ := dp
        omega
      obtain ⟨⟨eL, eR, eB, eT⟩, hst'⟩ := hst
      have hin : vp_in (nI bs.length) 16 := vp_in_nI (by omega) (by decide)
      have hc : (nI bs.length).toNatClampNeg = bs.length := nI_clamp (by omega)
      have hcs := b_cs_pos gb
      have hcost' : (step : Int) + (b_cs b + k_cost bs) ≤ 2047 := hcost
      have hcn' := k_cost_nn hok'
      refine br_f (nI_nle (n := bs.length + 1) (by omega) (by omega)) ?_
      refine nm_r (e' := nI bs.length) (nI_pred _) ⟨hin, hin, hin, hin, ?_⟩
      rw [hc, eL, eR, eB, eT]
      refine xg_range hw ok gb ?_
      intro lo' hi' f0' f1' re' li' hrow
      dsimp only
      have hrow' : ∀ t, t < 5 → (∀ x y, b_in b x y → (lo' t).toInt ≤ q_sm w t x y ∧ q_sm w t x y ≤ (hi' t).toInt) ∧ (b_pt b → (lo' t).toInt = (hi' t).toInt) := by
        intro t ht
        obtain ⟨L, H, eLo, eHi, hbd, hr, hl, hpt⟩ := hrow t (by omega)
        rw [eLo, eHi, zi_t (by omega) (by omega), zi_t (by omega) (by omega)]
        exact ⟨hr, fun z => hpt z.1 z.2⟩
      have hbin : b_in b b.1 b.2.2.1 := by
        unfold b_gd q_gb at gb
        unfold b_in q_in
        omega
      unfold wpX_patternOf
      dsimp only
      refine ⟨6, xp_of ?_ ?_ 5 0 (by omega) lt_0⟩
      · rintro ⟨t, ht, z1, z2⟩
        have hnp : ¬ b_pt b := by
          intro z
          have := (hrow' t ht).2 z
          omega
        refine br_t (by decide) ?_
        obtain ⟨k1, k2, k3, k4, k5⟩ := k_cut (b := b) (bs := bs) ⟨⟨gb, dp⟩, hok'⟩ hnp
        refine xc_cut (b := b) (bs := bs) ⟨⟨eL, eR, eB, eT⟩, hst'⟩ gb hnp k5 ?_
        intro le' ri' bo' tp' hst2
        dsimp only
        refine nm_r (nI_1 step) ?_
        refine ih (step + 1) (b_lf b :: b_rt b :: bs) s fb _ _ _ _ _ _ _ _ _ _ _ (by omega) ?_ k1 hst2 hsnd ?_ ?_
        · rw [k2]
          show ((step + 1 : Nat) : Int) + (b_cs b + k_cost bs - 1) ≤ 2047
          omega
        · intro x y h
          rcases hcov x y h with z | z
          · exact Or.inl z
          · exact Or.inr ((k3 x y).mp z)
        · exact fun x y h => hsub x y ((k3 x y).mpr h)
      · intro hall
        have hsame : ∀ x y, b_in b x y → p_pat w x y = p_m (fun t => decide (0 < (lo' t).toInt)) 5 := by
          intro x y h
          refine p_m_c 5 (fun t ht => ?_)
          have h1 := (hrow' t ht).1 x y h
          have h2 := hall t ht
          by_cases z : 0 < (lo' t).toInt
          · rw [decide_eq_true z, decide_eq_true (by omega)]
          · rw [decide_eq_false z, decide_eq_false (by omega)]
        obtain ⟨j, hj, ej⟩ := p_m5 (fun t => decide (0 < (lo' t).toInt))
        rw [ej] at hsame ⊢
        refine br_f (nI_pos (by omega)) (nm_e (nm_r (nI_1 step) ?_))
        refine ih (step + 1) bs _ fb _ _ _ _ _ _ _ _ _ _ _ (by omega) (by omega) hok' hst' ?_ ?_ ?_
        · intro p hp32 hbit
          rcases (p_set s hj hp32).mp hbit with z | z
          · exact hsnd p hp32 z
          · rw [z]
            exact ⟨_, _, hsub _ _ (Or.inl hbin), hsame _ _ hbin⟩
        · intro x y h
          rcases hcov x y h with ⟨p, hp32, e, hb⟩ | z | z
          · exact Or.inl ⟨p, hp32, e, (p_set s hj hp32).mpr (Or.inl hb)⟩
          · exact Or.inl ⟨j, hj, hsame x y z, (p_set s hj hj).mpr (Or.inr rfl)⟩
          · exact Or.inr z
        · exact fun x y h => hsub x y (Or.inr h)
theorem xp_patterns {post : Int32 → SX → Prop} {fw fb : Int32} {nm un lo hi f0 f1 re li le ri bo tp : Nat → Int32} {w : Nat → Int} (hw : ∀ j, nm j = zi (w j)) (ok : q_ok w)
    {a b c d : Nat} (hab : a ≤ b) (hb : b < 32) (hcd : c ≤ d) (hd : d < 32)
    (hp : ∀ (s : Int32) (u' : SX), s_pt w (b_of a b c d) s → u'.2.2.1 = nm → post (p_ct s 32) u') :
    wpX_patterns post (fw, fb, nm, un, lo, hi, f0, f1, re, li, le, ri, bo, tp) (nI (32 * a + b)) (nI (32 * c + d)) := by
  have gB := b_of_gd hab hb hcd hd
  unfold wpX_patterns
  dsimp only
  refine iv_xok hab hb (br_f xb_10 (iv_xok hcd hd (br_f xb_10 ?_)))
  refine xc_open hab hb hcd hd ?_
  dsimp only
  refine ⟨2049, ?_⟩
  have h1 := b_cs_max gB
  refine xp_loop hw ok hp 2049 0 [b_of a b c d] _ _ _ _ _ _ _ _ _ _ _ _ _ (by omega) ?_ ⟨⟨gB, b_dp_max gB⟩, trivial⟩ ⟨⟨pk_us, pk_us, pk_us, pk_us⟩, trivial⟩ ?_ ?_ ?_
  · show ((0 : Nat) : Int) + (b_cs (b_of a b c d) + 0) ≤ 2047
    omega
  · intro p _ h
    rw [b_0] at h
    exact absurd h (by decide)
  · exact fun x y h => Or.inr (Or.inl h)
  · rintro x y (h | h)
    · exact h
    · exact h.elim
end
section
/-! ===== the reference's loops over a box ===== -/
/-- before (x, y) in the box -/
def y_bf (l0 h0 l1 h1 x y x' y' : Int) : Prop := q_in l0 h0 l1 h1 x' y' ∧ (x' < x ∨ (x' = x ∧ y' < y))
theorem y_bf_n {l0 h0 l1 h1 x y x' y' : Int} (h : y_bf l0 h0 l1 h1 x (y + 1) x' y') : y_bf l0 h0 l1 h1 x y x' y' ∨ (x' = x ∧ y' = y) := by
  unfold y_bf q_in at *
  omega
theorem y_bf_r {l0 h0 l1 h1 x x' y' : Int} (h : y_bf l0 h0 l1 h1 (x + 1) l1 x' y') : y_bf l0 h0 l1 h1 x (h1 + 1) x' y' := by
  unfold y_bf q_in at *
  omega
theorem y_bf_0 {l0 h0 l1 h1 x' y' : Int} (h : y_bf l0 h0 l1 h1 l0 l1 x' y') : False := by
  unfold y_bf q_in at h
  omega
theorem y_bf_e {l0 h0 l1 h1 x' y' : Int} (h : q_in l0 h0 l1 h1 x' y') : y_bf l0 h0 l1 h1 (h0 + 1) l1 x' y' := by
  unfold y_bf
  unfold q_in at *
  omega
theorem zi_p1 (a : Int) : zi a + 1 = zi (a + 1) := by rw [zi_1, zi_add]
def ye_inv (w : Nat → Int) (sg l0 h0 l1 h1 x y b : Int) : Prop :=
  (-1000000 ≤ b ∧ b ≤ 1000000) ∧ (∀ x' y', y_bf l0 h0 l1 h1 x y x' y' → sg * q_sm w 5 x' y' ≤ b) ∧ (b = -1000000 ∨ ∃ x' y', q_in l0 h0 l1 h1 x' y' ∧ sg * q_sm w 5 x' y' = b)
theorem ye_in {post : Int32 → Prop} {J : Int32 → Int32 → Prop} {nm : Nat → Int32} {w : Nat → Int} (hw : ∀ j, nm j = zi (w j)) (ok : q_ok w) {l0 h0 l1 h1 : Int} (gB : q_gb l0 h0 l1 h1) {sg : Int} (hsg : sg = 1 ∨ sg = -1) {x : Int} (hx : l0 ≤ x ∧ x ≤ h0)
    (hJ : ∀ b' : Int, ye_inv w sg l0 h0 l1 h1 (x + 1) l1 b' → J (zi b') (zi (x + 1))) :
    ∀ (d : Nat) (y b : Int), y + d = h1 + 1 → l1 ≤ y → ye_inv w sg l0 h0 l1 h1 x y b → wY_extreme_22 post J (zi sg) (zi x) (zi l0) (zi h0) (zi l1) (zi h1) nm (d + 1) (zi b) (zi y) := by
  unfold q_gb at gB
  intro d
  induction d with
  | zero =>
    intro y b hd hy I
    obtain rfl : y = h1 + 1 := by omega
    simp only [wY_extreme_22]
    refine br_t ((zi_lt (by omega) (by omega) (by omega) (by omega)).mpr (by omega)) (nm_r (zi_p1 x) (hJ b ⟨I.1, fun x' y' h => I.2.1 x' y' (y_bf_r h), I.2.2⟩))
  | succ d ih =>
    intro y b hd hy I
    have hxx : -16 ≤ x ∧ x ≤ 16 := by omega
    have hyy : -16 ≤ y ∧ y ≤ 16 := by omega
    have hv := sg_b hsg (q_sm_b ok 5 hxx hyy)
    have hq : q_in l0 h0 l1 h1 x y := ⟨hx.1, hx.2, hy, by omega⟩
    simp only [wY_extreme_22]
    refine br_f (fun z => absurd ((zi_lt (by omega) (by omega) (by omega) (by omega)).mp z) (by omega)) ?_
    refine yg_given hw ok hxx hyy ?_
    refine nm_r (zi_mul _ _) ?_
    refine zi_iff (zi_le (by omega) (by omega) (by have := I.1; omega) (by have := I.1; omega)) (fun z => nm_r (zi_p1 y) (ih (y + 1) b (by omega) (by omega) ⟨I.1, fun x' y' h => ?_, I.2.2⟩)) (fun z => nm_r (zi_p1 y) (ih (y + 1) _ (by omega) (by omega) ⟨by omega, fun x' y' h => ?_, Or.inr ⟨x, y, hq, rfl⟩⟩))
    · rcases y_bf_n h with h1 | ⟨rfl, rfl⟩
      · exact I.2.1 _ _ h1
      · exact z
    · rcases y_bf_n h with h1 | ⟨rfl, rfl⟩
      · have := I.2.1 _ _ h1
        omega
      · exact Int.le_refl _
theorem ye_out {post : Int32 → Prop} {nm : Nat → Int32} {w : Nat → Int} (hw : ∀ j, nm j = zi (w j)) (ok : q_ok w) {l0 h0 l1 h1 : Int} (gB : q_gb l0 h0 l1 h1) {sg : Int} (hsg : sg = 1 ∨ sg = -1)
    (hp : ∀ b' : Int, ye_inv w sg l0 h0 l1 h1 (h0 + 1) l1 b' → post (zi (sg * b'))) :
    ∀ (d : Nat) (x b : Int), x + d = h0 + 1 → l0 ≤ x → ye_inv w sg l0 h0 l1 h1 x l1 b → wY_extreme_8 post (zi sg) (zi l0) (zi h0) (zi l1) (zi h1) nm (d + 1) (zi b) (zi x) := by
  have gB' := gB
  unfold q_gb at gB
  intro d
  induction d with
  | zero =>
    intro x b hd hx I
    obtain rfl : x = h0 + 1 := by omega
    simp only [wY_extreme_8, zi_mul]
    exact br_t ((zi_lt (by omega) (by omega) (by omega) (by omega)).mpr (by omega)) (hp b I)
  | succ d ih =>
    intro x b hd hx I
    simp only [wY_extreme_8]
    refine br_f (fun z => absurd ((zi_lt (by omega) (by omega) (by omega) (by omega)).mp z) (by omega)) ⟨(h1 + 1 - l1).toNat + 1, ?_⟩
    exact ye_in hw ok gB' hsg (by omega) (fun b' I' => ih (x + 1) b' (by omega) (by omega) I') _ l1 b (by omega) (by omega) I
theorem ye_extreme {post : Int32 → Prop} {nm : Nat → Int32} {w : Nat → Int} (hw : ∀ j, nm j = zi (w j)) (ok : q_ok w) {l0 h0 l1 h1 : Int} (gB : q_gb l0 h0 l1 h1) {sg : Int} (hsg : sg = 1 ∨ sg = -1)
    (hp : ∀ M : Int, s_max (fun x y => sg * q_sm w 5 x y) (l0, h0, l1, h1) M → post (zi (sg * M))) :
    wpY_extreme post (zi l0, zi h0, zi l1, zi h1, nm) (zi sg) := by
  have gB' := gB
  unfold q_gb at gB
  unfold wpY_extreme
  dsimp only
  rw [zi_mm]
  refine ⟨(h0 + 1 - l0).toNat + 1, ye_out hw ok gB' hsg ?_ _ l0 _ (by omega) (by omega) ⟨by omega, fun x' y' h => (y_bf_0 h).elim, Or.inl rfl⟩⟩
  intro b I
  refine hp b ⟨?_, fun x y h => I.2.1 x y (y_bf_e h)⟩
  rcases I.2.2 with z | z
  · have hq : q_in l0 h0 l1 h1 l0 l1 := ⟨by omega, by omega, by omega, by omega⟩
    have h1 := I.2.1 _ _ (y_bf_e hq)
    have h2 := sg_b hsg (q_sm_b ok 5 (x := l0) (y := l1) (by omega) (by omega))
    omega
  · exact z
/-! above -/
theorem ya_in {post : Int32 → Prop} {J : Int32 → Prop} {nm : Nat → Int32} {w : Nat → Int} (hw : ∀ j, nm j = zi (w j)) (ok : q_ok w) {l0 h0 l1 h1 : Int} (gB : q_gb l0 h0 l1 h1) {x1 : Int32} {x : Int} (hx : l0 ≤ x ∧ x ≤ h0)
    (hp : ∀ r : Int32, s_fa (q_sm w 5) (l0, h0, l1, h1) x1.toInt r → post r)
    (hJ : (∀ x' y', y_bf l0 h0 l1 h1 (x + 1) l1 x' y' → q_sm w 5 x' y' ≤ x1.toInt) → J (zi (x + 1))) :
    ∀ (d : Nat) (y : Int), y + d = h1 + 1 → l1 ≤ y → (∀ x' y', y_bf l0 h0 l1 h1 x y x' y' → q_sm w 5 x' y' ≤ x1.toInt) → wY_above_18 post J x1 (zi x) (zi l0) (zi h0) (zi l1) (zi h1) nm (d + 1) (zi y) := by
  unfold q_gb at gB
  intro d
  induction d with
  | zero =>
    intro y hd hy I
    obtain rfl : y = h1 + 1 := by omega
    simp only [wY_above_18]
    exact br_t ((zi_lt (by omega) (by omega) (by omega) (by omega)).mpr (by omega)) (nm_r (zi_p1 x) (hJ (fun x' y' h => I x' y' (y_bf_r h))))
  | succ d ih =>
    intro y hd hy I
    have hxx : -16 ≤ x ∧ x ≤ 16 := by omega
    have hyy : -16 ≤ y ∧ y ≤ 16 := by omega
    have hv := q_sm_b ok 5 hxx hyy
    have hq : q_in l0 h0 l1 h1 x y := ⟨hx.1, hx.2, hy, by omega⟩
    simp only [wY_above_18]
    refine br_f (fun z => absurd ((zi_lt (by omega) (by omega) (by omega) (by omega)).mp z) (by omega)) ?_
    refine yg_given hw ok hxx hyy ?_
    refine zi_iff (zi_lex (by omega) (by omega)) (fun z => nm_r (zi_p1 y) (ih (y + 1) (by omega) (by omega) (fun x' y' h => ?_))) (fun z => hp _ (Or.inr ⟨x, y, hq, by omega, ?_, ?_⟩))
    · rcases y_bf_n h with h1 | ⟨rfl, rfl⟩
      · exact I _ _ h1
      · exact z
    · rw [zi_16, zi_add, zi_32, zi_mul, zi_add, zi_add]
      rfl
    · intro x' y' hi1 hi2
      have h3 : ¬ y_bf l0 h0 l1 h1 x y x' y' := fun z => by
        have := I _ _ z
        omega
      have hi1' : q_in l0 h0 l1 h1 x' y' := hi1
      unfold y_bf at h3
      unfold q_in at hi1' h3
      unfold b_cd
      omega
theorem ya_out {post : Int32 → Prop} {nm : Nat → Int32} {w : Nat → Int} (hw : ∀ j, nm j = zi (w j)) (ok : q_ok w) {l0 h0 l1 h1 : Int} (gB : q_gb l0 h0 l1 h1) {x1 : Int32}
    (hp : ∀ r : Int32, s_fa (q_sm w 5) (l0, h0, l1, h1) x1.toInt r → post r) :
    ∀ (d : Nat) (x : Int), x + d = h0 + 1 → l0 ≤ x → (∀ x' y', y_bf l0 h0 l1 h1 x l1 x' y' → q_sm w 5 x' y' ≤ x1.toInt) → wY_above_5 post x1 (zi l0) (zi h0) (zi l1) (zi h1) nm (d + 1) (zi x) := by
  have gB' := gB
  unfold q_gb at gB
  intro d
  induction d with
  | zero =>
    intro x hd hx I
    obtain rfl : x = h0 + 1 := by omega
    simp only [wY_above_5]
    exact br_t ((zi_lt (by omega) (by omega) (by omega) (by omega)).mpr (by omega)) (hp _ (Or.inl ⟨rfl, fun x y h => I x y (y_bf_e h)⟩))
  | succ d ih =>
    intro x hd hx I
    simp only [wY_above_5]
    refine br_f (fun z => absurd ((zi_lt (by omega) (by omega) (by omega) (by omega)).mp z) (by omega)) ⟨(h1 + 1 - l1).toNat + 1, ?_⟩
    exact ya_in hw ok gB' (by omega) hp (fun I' => ih (x + 1) (by omega) (by omega) I') _ l1 (by omega) (by omega) I
theorem ya_above {post : Int32 → Prop} {nm : Nat → Int32} {w : Nat → Int} (hw : ∀ j, nm j = zi (w j)) (ok : q_ok w) {l0 h0 l1 h1 : Int} (gB : q_gb l0 h0 l1 h1) {x1 : Int32}
    (hp : ∀ r : Int32, s_fa (q_sm w 5) (l0, h0, l1, h1) x1.toInt r → post r) :
    wpY_above post (zi l0, zi h0, zi l1, zi h1, nm) x1 := by
  have gB' := gB
  unfold q_gb at gB
  unfold wpY_above
  dsimp only
  exact ⟨(h0 + 1 - l0).toNat + 1, ya_out hw ok gB' hp _ l0 (by omega) (by omega) (fun x' y' h => (y_bf_0 h).elim)⟩
/-! fixed -/
def yf_inv (g : Int → Int → Int) (l0 h0 l1 h1 x y : Int) (s n : Int32) : Prop :=
  ((s = 0 ∧ ∀ x' y', y_bf l0 h0 l1 h1 x y x' y' → g x' y' ≤ 0) ∨ (s = 1 ∧ ∃ x' y', q_in l0 h0 l1 h1 x' y' ∧ 0 < g x' y')) ∧
  ((n = 0 ∧ ∀ x' y', y_bf l0 h0 l1 h1 x y x' y' → 0 < g x' y') ∨ (n = 1 ∧ ∃ x' y', q_in l0 h0 l1 h1 x' y' ∧ g x' y' ≤ 0))
theorem q_clip_le {t : Int} : q_clip t ≤ 0 ↔ t ≤ 0 := by
  unfold q_clip
  split <;> omega
theorem yf_in {post : Int32 → SY → Prop} {J : Int32 → Int32 → Int32 → Prop} {nm : Nat → Int32} {w : Nat → Int} (hw : ∀ j, nm j = zi (w j)) (ok : q_ok w) {l0 h0 l1 h1 : Int} (gB : q_gb l0 h0 l1 h1) {t : Nat} (ht : t < 5) {x : Int} (hx : l0 ≤ x ∧ x ≤ h0)
    (hJ : ∀ s n : Int32, yf_inv (q_sm w t) l0 h0 l1 h1 (x + 1) l1 s n → J s n (zi (x + 1))) :
    ∀ (d : Nat) (y : Int) (s n : Int32), y + d = h1 + 1 → l1 ≤ y → yf_inv (q_sm w t) l0 h0 l1 h1 x y s n → wY_fixed_50 post J (nI t) (zi x) (zi l0) (zi h0) (zi l1) (zi h1) nm (d + 1) s n (zi y) := by
  unfold q_gb at gB
  intro d
  induction d with
  | zero =>
    intro y s n hd hy I
    obtain rfl : y = h1 + 1 := by omega
    simp only [wY_fixed_50]
    refine br_t ((zi_lt (by omega) (by omega) (by omega) (by omega)).mpr (by omega)) (nm_r (zi_p1 x) (hJ s n ⟨?_, ?_⟩))
    · rcases I.1 with ⟨e, h⟩ | h
      · exact Or.inl ⟨e, fun x' y' z => h x' y' (y_bf_r z)⟩
      · exact Or.inr h
    · rcases I.2 with ⟨e, h⟩ | h
      · exact Or.inl ⟨e, fun x' y' z => h x' y' (y_bf_r z)⟩
      · exact Or.inr h
  | succ d ih =>
    intro y s n hd hy I
    have hxx : -16 ≤ x ∧ x ≤ 16 := by omega
    have hyy : -16 ≤ y ∧ y ≤ 16 := by omega
    have hv := q_sm_b ok t hxx hyy
    have hv' := q_clip_b hv.1 hv.2
    have hq : q_in l0 h0 l1 h1 x y := ⟨hx.1, hx.2, hy, by omega⟩
    simp only [wY_fixed_50]
    refine br_f (fun z => absurd ((zi_lt (by omega) (by omega) (by omega) (by omega)).mp z) (by omega)) ?_
    refine yg_unit hw ok hxx hyy ht ?_
    refine zi_iff ((zi_le0 (by omega) (by omega)).trans q_clip_le) (fun z => nm_r (zi_p1 y) (ih (y + 1) s 1 (by omega) (by omega) ⟨?_, Or.inr ⟨rfl, x, y, hq, z⟩⟩)) (fun z => nm_r (zi_p1 y) (ih (y + 1) 1 n (by omega) (by omega) ⟨Or.inr ⟨rfl, x, y, hq, by omega⟩, ?_⟩))
    · rcases I.1 with ⟨e, h⟩ | h
      · refine Or.inl ⟨e, fun x' y' h1 => ?_⟩
        rcases y_bf_n h1 with h2 | ⟨rfl, rfl⟩
        · exact h _ _ h2
        · exact z
      · exact Or.inr h
    · rcases I.2 with ⟨e, h⟩ | h
      · refine Or.inl ⟨e, fun x' y' h1 => ?_⟩
        rcases y_bf_n h1 with h2 | ⟨rfl, rfl⟩
        · exact h _ _ h2
        · omega
      · exact Or.inr h
theorem yf_out {post : Int32 → SY → Prop} {nm : Nat → Int32} {w : Nat → Int} (hw : ∀ j, nm j = zi (w j)) (ok : q_ok w) {l0 h0 l1 h1 : Int} (gB : q_gb l0 h0 l1 h1) {t : Nat} (ht : t < 5)
    (hp1 : (∀ x y, q_in l0 h0 l1 h1 x y → q_sm w t x y ≤ 0) → post 1 (zi l0, zi h0, zi l1, zi h1, nm))
    (hp2 : (∀ x y, q_in l0 h0 l1 h1 x y → 0 < q_sm w t x y) → post 2 (zi l0, zi h0, zi l1, zi h1, nm))
    (hp0 : (∃ x y, q_in l0 h0 l1 h1 x y ∧ 0 < q_sm w t x y) → (∃ x y, q_in l0 h0 l1 h1 x y ∧ q_sm w t x y ≤ 0) → post 0 (zi l0, zi h0, zi l1, zi h1, nm)) :
    ∀ (d : Nat) (x : Int) (s n : Int32), x + d = h0 + 1 → l0 ≤ x → yf_inv (q_sm w t) l0 h0 l1 h1 x l1 s n → wY_fixed_35 post (nI t) (zi l0) (zi h0) (zi l1) (zi h1) nm (d + 1) s n (zi x) := by
  have gB' := gB
  unfold q_gb at gB
  intro d
  induction d with
  | zero =>
    intro x s n hd hx I
    obtain rfl : x = h0 + 1 := by omega
    have hq : q_in l0 h0 l1 h1 l0 l1 := ⟨by omega, by omega, by omega, by omega⟩
    simp only [wY_fixed_35, wY_fixed_106]
    refine br_t ((zi_lt (by omega) (by omega) (by omega) (by omega)).mpr (by omega)) ?_
    rcases I.1 with ⟨rfl, h⟩ | ⟨rfl, h⟩
    · rcases I.2 with ⟨rfl, h'⟩ | ⟨rfl, h'⟩
      · have h1 := h _ _ (y_bf_e hq)
        have h2 := h' _ _ (y_bf_e hq)
        omega
      · exact br_t rfl (br_f xb_10 (hp1 (fun x y z => h x y (y_bf_e z))))
    · rcases I.2 with ⟨rfl, h'⟩ | ⟨rfl, h'⟩
      · exact br_f xb_10 (br_t rfl (br_t rfl (hp2 (fun x y z => h' x y (y_bf_e z)))))
      · exact br_f xb_10 (br_f xb_10 (hp0 h h'))
  | succ d ih =>
    intro x s n hd hx I
    simp only [wY_fixed_35]
    refine br_f (fun z => absurd ((zi_lt (by omega) (by omega) (by omega) (by omega)).mp z) (by omega)) ⟨(h1 + 1 - l1).toNat + 1, ?_⟩
    exact yf_in hw ok gB' ht (by omega) (fun s n I' => ih (x + 1) s n (by omega) (by omega) I') _ l1 s n (by omega) (by omega) I
/-! patterns -/
theorem yp_marks5 {post : Int32 → Prop} {w0 w1 w2 w3 : Int32} {nm : Nat → Int32} {w : Nat → Int} (hw : ∀ j, nm j = zi (w j)) (ok : q_ok w) {x y : Int} (hx : -16 ≤ x ∧ x ≤ 16) (hy : -16 ≤ y ∧ y ≤ 16) (hp : post (p_pat w x y)) :
    ∀ d k : Nat, k + d = 5 → wY_marks_5 post (zi x) (zi y) w0 w1 w2 w3 nm (d + 1) (p_m (fun t => decide (0 < q_sm w t x y)) k) (nI k) := by
  intro d
  induction d with
  | zero =>
    intro k h
    obtain rfl : k = 5 := by omega
    simp only [wY_marks_5]
    exact br_t (by decide) hp
  | succ d ih =>
    intro k h
    have hv := q_sm_b ok k hx hy
    have hv' := q_clip_b hv.1 hv.2
    have e : p_m (fun t => decide (0 < q_sm w t x y)) (k + 1) = if decide (0 < q_sm w k x y) = true then p_m (fun t => decide (0 < q_sm w t x y)) k ||| ((1 : Int32) <<< (nI k &&& 31)) else p_m (fun t => decide (0 < q_sm w t x y)) k := rfl
    have := ih (k + 1) (by omega)
    simp only [wY_marks_5]
    refine br_f (nI_ge (b := 5) (by omega) (by decide)) (yg_unit hw ok hx hy (by omega) ?_)
    refine zi_iff ((zi_le0 (by omega) (by omega)).trans q_clip_le) (fun z => nm_r (nI_1 k) ?_) (fun z => ?_)
    · rw [e, if_neg (by rw [decide_eq_true_eq]; omega)] at this
      exact this
    · rw [e, if_pos (by rw [decide_eq_true_eq]; omega)] at this
      exact nm_e (nm_r (nI_1 k) this)
theorem yp_count {post : Int32 → SY → Prop} {w0 w1 w2 w3 : Int32} {nm : Nat → Int32} {s : Int32} (hp : post (p_ct s 32) (w0, w1, w2, w3, nm)) : ∀ d p : Nat, p + d = 32 → wY_patterns_74 post s w0 w1 w2 w3 nm (d + 1) (p_ct s p) (nI p) := by
  intro d
  induction d with
  | zero =>
    intro p h
    obtain rfl : p = 32 := by omega
    simp only [wY_patterns_74]
    exact br_t (by decide) hp
  | succ d ih =>
    intro p h
    simp only [wY_patterns_74]
    rw [p_sshr s (by omega)]
    exact br_f (nI_ge (b := 32) (by omega) (by decide)) (nm_e (nm_r (nI_1 p) (ih (p + 1) (by omega))))
def yp_inv (w : Nat → Int) (l0 h0 l1 h1 x y : Int) (s : Int32) : Prop :=
  (∀ p, p < 32 → bt s p = true → ∃ x' y', q_in l0 h0 l1 h1 x' y' ∧ p_pat w x' y' = nI p) ∧
  (∀ x' y', y_bf l0 h0 l1 h1 x y x' y' → ∃ p, p < 32 ∧ p_pat w x' y' = nI p ∧ bt s p = true)
theorem yp_in {post : Int32 → SY → Prop} {J : Int32 → Int32 → Prop} {nm : Nat → Int32} {w : Nat → Int} (hw : ∀ j, nm j = zi (w j)) (ok : q_ok w) {l0 h0 l1 h1 : Int} (gB : q_gb l0 h0 l1 h1) {x : Int} (hx : l0 ≤ x ∧ x ≤ h0)
    (hJ : ∀ s : Int32, yp_inv w l0 h0 l1 h1 (x + 1) l1 s → J s (zi (x + 1))) :
    ∀ (d : Nat) (y : Int) (s : Int32), y + d = h1 + 1 → l1 ≤ y → yp_inv w l0 h0 l1 h1 x y s → wY_patterns_34 post J (zi x) (zi l0) (zi h0) (zi l1) (zi h1) nm (d + 1) s (zi y) := by
  unfold q_gb at gB
  intro d
  induction d with
  | zero =>
    intro y s hd hy I
    obtain rfl : y = h1 + 1 := by omega
    simp only [wY_patterns_34]
    exact br_t ((zi_lt (by omega) (by omega) (by omega) (by omega)).mpr (by omega)) (nm_r (zi_p1 x) (hJ s ⟨I.1, fun x' y' h => I.2 x' y' (y_bf_r h)⟩))
  | succ d ih =>
    intro y s hd hy I
    have hxx : -16 ≤ x ∧ x ≤ 16 := by omega
    have hyy : -16 ≤ y ∧ y ≤ 16 := by omega
    have hq : q_in l0 h0 l1 h1 x y := ⟨hx.1, hx.2, hy, by omega⟩
    simp only [wY_patterns_34]
    refine br_f (fun z => absurd ((zi_lt (by omega) (by omega) (by omega) (by omega)).mp z) (by omega)) ?_
    unfold wpY_marks
    dsimp only
    obtain ⟨j, hj, ej⟩ := p_m5 (fun t => decide (0 < q_sm w t x y))
    have ej' : p_pat w x y = nI j := ej
    refine ⟨6, yp_marks5 hw ok hxx hyy ?_ 5 0 (by omega)⟩
    rw [ej']
    refine nm_e (nm_r (zi_p1 y) (ih (y + 1) _ (by omega) (by omega) ⟨fun p hp32 hb => ?_, fun x' y' h => ?_⟩))
    · rcases (p_set s hj hp32).mp hb with z | z
      · exact I.1 p hp32 z
      · rw [z]
        exact ⟨x, y, hq, ej'⟩
    · rcases y_bf_n h with h1 | ⟨rfl, rfl⟩
      · obtain ⟨p, hp32, e, hb⟩ := I.2 _ _ h1
        exact ⟨p, hp32, e, (p_set s hj hp32).mpr (Or.inl hb)⟩
      · exact ⟨j, hj, ej', (p_set s hj hj).mpr (Or.inr rfl)⟩
theorem yp_out {post : Int32 → SY → Prop} {nm : Nat → Int32} {w : Nat → Int} (hw : ∀ j, nm j = zi (w j)) (ok : q_ok w) {l0 h0 l1 h1 : Int} (gB : q_gb l0 h0 l1 h1)
    (hp : ∀ s : Int32, s_pt w (l0, h0, l1, h1) s → post (p_ct s 32) (zi l0, zi h0, zi l1, zi h1, nm)) :
    ∀ (d : Nat) (x : Int) (s : Int32), x + d = h0 + 1 → l0 ≤ x → yp_inv w l0 h0 l1 h1 x l1 s → wY_patterns_19 post (zi l0) (zi h0) (zi l1) (zi h1) nm (d + 1) s (zi x) := by
  have gB' := gB
  unfold q_gb at gB
  intro d
  induction d with
  | zero =>
    intro x s hd hx I
    obtain rfl : x = h0 + 1 := by omega
    simp only [wY_patterns_19]
    refine br_t ((zi_lt (by omega) (by omega) (by omega) (by omega)).mpr (by omega)) ⟨33, yp_count (s := s) (hp s ?_) 32 0 (by omega)⟩
    intro p hp32
    refine ⟨I.1 p hp32, ?_⟩
    rintro ⟨x, y, h1, h2⟩
    obtain ⟨p', hp', e', hb'⟩ := I.2 x y (y_bf_e h1)
    have : nI p = nI p' := h2.symm.trans e'
    rw [nI_eq (by omega) (by omega)] at this
    rw [this]
    exact hb'
  | succ d ih =>
    intro x s hd hx I
    simp only [wY_patterns_19]
    refine br_f (fun z => absurd ((zi_lt (by omega) (by omega) (by omega) (by omega)).mp z) (by omega)) ⟨(h1 + 1 - l1).toNat + 1, ?_⟩
    exact yp_in hw ok gB' (by omega) (fun s I' => ih (x + 1) s (by omega) (by omega) I') _ l1 s (by omega) (by omega) I
end
section
/-! ===== radius ===== -/
def r_lo (x r : Int) : Int := if -16 ≤ x - r then x - r else -16
def r_hi (x r : Int) : Int := if x + r ≤ 15 then x + r else 15
def r_bx (x y r : Int) : Bx := (r_lo x r, r_hi x r, r_lo y r, r_hi y r)
def r_P (w : Nat → Int) (x y lim r : Int) : Prop := ∃ x' y', b_in (r_bx x y r) x' y' ∧ lim < q_sm w 5 x' y'
theorem r_lo_b {x r : Int} (hx : -16 ≤ x ∧ x ≤ 15) (hr : 0 ≤ r) : -16 ≤ r_lo x r ∧ r_lo x r ≤ x := by
  unfold r_lo; split <;> omega
theorem r_hi_b {x r : Int} (hx : -16 ≤ x ∧ x ≤ 15) (hr : 0 ≤ r) : x ≤ r_hi x r ∧ r_hi x r ≤ 15 := by
  unfold r_hi; split <;> omega
theorem r_bx_gd {x y r : Int} (hx : -16 ≤ x ∧ x ≤ 15) (hy : -16 ≤ y ∧ y ≤ 15) (hr : 0 ≤ r) : b_gd (r_bx x y r) := by
  have h1 := r_lo_b hx hr
  have h2 := r_hi_b hx hr
  have h3 := r_lo_b hy hr
  have h4 := r_hi_b hy hr
  unfold b_gd q_gb r_bx
  dsimp only
  omega
theorem r_mono {w : Nat → Int} {x y lim r s : Int} (h : r_P w x y lim r) (hr : r ≤ s) : r_P w x y lim s := by
  obtain ⟨x', y', h1, h2⟩ := h
  refine ⟨x', y', ?_, h2⟩
  unfold b_in q_in r_bx r_lo r_hi at *
  dsimp only at *
  omega
theorem r_P0 {w : Nat → Int} {x y lim : Int} (hx : -16 ≤ x ∧ x ≤ 15) (hy : -16 ≤ y ∧ y ≤ 15) : r_P w x y lim 0 ↔ lim < q_sm w 5 x y := by
  constructor
  · rintro ⟨x', y', h1, h2⟩
    have e : x' = x ∧ y' = y := by
      unfold b_in q_in r_bx r_lo r_hi at h1
      dsimp only at h1
      omega
    rw [e.1, e.2] at h2
    exact h2
  · intro h
    refine ⟨x, y, ?_, h⟩
    unfold b_in q_in r_bx r_lo r_hi
    dsimp only
    omega
/-- the last good radius is one -/
def r_S (w : Nat → Int) (x y lim : Int) (g : Nat) : Prop := g ≤ 31 ∧ ¬ r_P w x y lim g ∧ (g = 31 ∨ r_P w x y lim ((g : Int) + 1))
theorem r_S_u {w : Nat → Int} {x y lim : Int} {g h : Nat} (hg : r_S w x y lim g) (hh : r_S w x y lim h) : g = h := by
  obtain ⟨g1, g2, g3⟩ := hg
  obtain ⟨h1, h2, h3⟩ := hh
  rcases Nat.lt_trichotomy g h with z | z | z
  · rcases g3 with q | q
    · omega
    · exact absurd (r_mono q (by omega)) h2
  · exact z
  · rcases h3 with q | q
    · omega
    · exact absurd (r_mono q (by omega)) g2
/-! the component's -/
theorem xa_around {post : Int32 → Prop} {x : Int} (hx : -16 ≤ x ∧ x ≤ 15) {r : Nat} (hr : r ≤ 32)
    (hp : ∀ a b : Nat, (a : Int) - 16 = r_lo x r → (b : Int) - 16 = r_hi x r → a ≤ b → b < 32 → post (nI (32 * a + b))) : wpX_around post (zi x) (nI r) := by
  have h1 := r_lo_b (r := r) hx (by omega)
  have h2 := r_hi_b (r := r) hx (by omega)
  have fin : post (zi (32 * (r_lo x r + 16) + r_hi x r + 16)) := by
    have := hp (r_lo x r + 16).toNat (r_hi x r + 16).toNat (by omega) (by omega) (by omega) (by omega)
    rw [zi_nI] at this
    have e : ((32 * (r_lo x r + 16).toNat + (r_hi x r + 16).toNat : Nat) : Int) = 32 * (r_lo x r + 16) + r_hi x r + 16 := by omega
    rw [e] at this
    exact this
  have h33 : ∀ z : Int32, z = zi (r_lo x r) → wX_around_16 post (zi x) (nI r) z := by
    intro z ez
    subst ez
    unfold wX_around_16 wX_around_33
    rw [zi_nI, zi_add, zi_16, zi_15, zi_add, zi_32, zi_mul, zi_add, zi_add, zi_add, zi_add]
    refine zi_iff (zi_lt (by omega) (by omega) (by omega) (by omega)) (fun z => ?_) (fun z => ?_)
    · have e : r_hi x r = x + r := if_pos (by omega)
      rw [e] at fin
      exact fin
    · have e : r_hi x r = 15 := if_neg (by omega)
      rw [e] at fin
      exact fin
  unfold wpX_around
  have e0 : zi x - nI r = zi (x - r) := by rw [zi_nI, zi_sub]
  rw [e0, zi_m16]
  refine zi_iff (zi_le (by omega) (by omega) (by omega) (by omega)) (fun z => h33 _ ?_) (fun z => h33 _ ?_)
  · exact congrArg zi (if_pos z).symm
  · exact congrArg zi (if_neg z).symm
theorem xa_loop {post : Int32 → SX → Prop} {nm : Nat → Int32} {w : Nat → Int} (hw : ∀ j, nm j = zi (w j)) (ok : q_ok w) {x y : Int} (hx : -16 ≤ x ∧ x ≤ 15) (hy : -16 ≤ y ∧ y ≤ 15) {x3 : Int32}
    (hp : ∀ (g : Nat) (u' : SX), r_S w x y x3.toInt g → u'.2.2.1 = nm → post (nI g) u') :
    ∀ (d k g b : Nat) (fw fb : Int32) (un lo hi f0 f1 re li le ri bo tp : Nat → Int32), k + d = 5 → b = g + 2 ^ d → b ≤ 32 → ¬ r_P w x y x3.toInt g → (b = 32 ∨ r_P w x y x3.toInt b) →
      wX_radius_45 post (zi x) (zi y) x3 (d + 1) (nI g) (nI b) (nI k) fw fb nm un lo hi f0 f1 re li le ri bo tp := by
  intro d
  induction d with
  | zero =>
    intro k g b fw fb un lo hi f0 f1 re li le ri bo tp hd hb h32 hg hbad
    have hb' : b = g + 1 := hb
    subst hb'
    have e : nI (g + 1) - nI g = nI 1 := (pk_sub (by omega)).trans (congrArg nI (by omega))
    simp only [wX_radius_45, e]
    refine br_f (nI_ge (b := 6) (by omega) (by decide)) (br_t (by decide) (hp g _ ⟨by omega, hg, ?_⟩ rfl))
    rcases hbad with z | z
    · exact Or.inl (by omega)
    · exact Or.inr z
  | succ d ih =>
    intro k g b fw fb un lo hi f0 f1 re li le ri bo tp hd hb h32 hg hbad
    have hp2 : 1 ≤ 2 ^ d := Nat.one_le_two_pow
    have hb' : b = g + (2 ^ d + 2 ^ d) := by rw [hb, Nat.pow_succ]; omega
    generalize hm : 2 ^ d = m at *
    have e : nI b - nI g = nI (m + m) := (pk_sub (by omega)).trans (congrArg nI (by omega))
    have e2 : nI g + nI b = nI (2 * (g + m)) := (nI_add g b).trans (congrArg nI (by omega))
    have e3 : nI (2 * (g + m)) >>> ((1 : Int32) &&& 31) = nI (g + m) := (pk_shrN (by omega) _ 1 (by decide)).trans (congrArg nI (by omega))
    simp only [wX_radius_45, e, e2, e3]
    refine br_f (nI_ge (b := 6) (by omega) (by decide)) (br_f (nI_ge (a := 1) (by omega) (by omega)) (nm_e ?_))
    refine xa_around hx (by omega) ?_
    intro a1 b1 ea eb hab hb1
    refine xa_around hy (by omega) ?_
    intro c1 d1 ec ed hcd hd1
    refine xf_above hw ok hab hb1 hcd hd1 ?_
    intro r u' hs hu
    obtain ⟨fw', fb', nm', un', lo', hi', f0', f1', re', li', le', ri', bo', tp'⟩ := u'
    obtain rfl : nm' = nm := hu
    have eB : b_of a1 b1 c1 d1 = r_bx x y ((g + m : Nat) : Int) := by
      unfold b_of r_bx
      rw [ea, eb, ec, ed]
    rw [eB] at hs
    dsimp only
    rcases s_fa_n (r_bx_gd hx hy (by omega)) hs with ⟨e4, _, h⟩ | ⟨e4, _, h⟩
    · refine br_t e4 (nm_r (nI_1 k) (ih (k + 1) (g + m) b _ _ _ _ _ _ _ _ _ _ _ _ _ (by omega) (by omega) h32 ?_ hbad))
      rintro ⟨x', y', h1, h2⟩
      have := h x' y' h1
      omega
    · exact br_f e4 (nm_r (nI_1 k) (ih (k + 1) g (g + m) _ _ _ _ _ _ _ _ _ _ _ _ _ (by omega) (by omega) (by omega) hg (Or.inr h)))
/-! inputs -/
theorem in_xok {post : Int32 → Prop} {x : Int} (hx : -16 ≤ x ∧ x ≤ 15) (hp : post 1) : wpX_isInput post (zi x) := by
  unfold wpX_isInput
  rw [zi_m16, zi_16]
  exact br_f (fun z => absurd ((zi_lt (by omega) (by omega) (by omega) (by omega)).mp z) (by omega)) (br_f (fun z => absurd ((zi_le (by omega) (by omega) (by omega) (by omega)).mp z) (by omega)) hp)
theorem in_yok {post : Int32 → Prop} {v : SY} {x : Int} (hx : -16 ≤ x ∧ x ≤ 15) (hp : post 0) : wpY_bad post v (zi x) := by
  unfold wpY_bad
  dsimp only
  rw [zi_m16, zi_15]
  exact br_f (fun z => absurd ((zi_lt (by omega) (by omega) (by omega) (by omega)).mp z) (by omega)) (br_t ((zi_le (by omega) (by omega) (by omega) (by omega)).mpr (by omega)) hp)
theorem in_cases (p : Int32) : (∃ x : Int, (-16 ≤ x ∧ x ≤ 15) ∧ p = zi x) ∨ ((∀ post : Int32 → Prop, post 0 → wpX_isInput post p) ∧ (∀ (post : Int32 → Prop) (v : SY), post 1 → wpY_bad post v p)) := by
  have z1 : (-16 : Int32).toInt = -16 := by decide
  have z2 : (16 : Int32).toInt = 16 := by decide
  have z3 : (15 : Int32).toInt = 15 := by decide
  by_cases h0 : p < -16
  · exact Or.inr ⟨fun post hp => br_t h0 hp, fun post v hp => br_t h0 hp⟩
  · have h0' := h0
    rw [Int32.lt_iff_toInt_lt, z1] at h0'
    by_cases h1 : p.toInt ≤ 15
    · exact Or.inl ⟨p.toInt, ⟨by omega, h1⟩, zi_of p⟩
    · have h2 : (16 : Int32) ≤ p := by
        rw [Int32.le_iff_toInt_le, z2]
        omega
      have h3 : ¬ p ≤ 15 := by
        rw [Int32.le_iff_toInt_le, z3]
        exact h1
      exact Or.inr ⟨fun post hp => br_f h0 (br_t h2 hp), fun post v hp => br_f h0 (br_f h3 hp)⟩
theorem xa_radius {post : Int32 → SX → Prop} {fw fb : Int32} {nm un lo hi f0 f1 re li le ri bo tp : Nat → Int32} {w : Nat → Int} (hw : ∀ j, nm j = zi (w j)) (ok : q_ok w) {x y : Int} (hx : -16 ≤ x ∧ x ≤ 15) (hy : -16 ≤ y ∧ y ≤ 15) {x3 : Int32}
    (hp0 : r_P w x y x3.toInt 0 → ∀ u' : SX, u'.2.2.1 = nm → post (-2) u')
    (hp : ∀ (g : Nat) (u' : SX), r_S w x y x3.toInt g → u'.2.2.1 = nm → post (nI g) u') :
    wpX_radius post (fw, fb, nm, un, lo, hi, f0, f1, re, li, le, ri, bo, tp) (zi x) (zi y) x3 := by
  have hv := q_sm_b ok 5 (x := x) (y := y) (by omega) (by omega)
  unfold wpX_radius
  dsimp only
  refine in_xok hx (br_f xb_10 (in_xok hy (br_f xb_10 ?_)))
  refine xw_work hw ok (by omega) (by omega) ?_
  intro un' hun
  dsimp only
  rw [hun 5 (by omega)]
  refine zi_iff (zi_lex (by omega) (by omega)) (fun z => ⟨6, ?_⟩) (fun z => hp0 ((r_P0 hx hy).mpr (by omega)) _ rfl)
  refine xa_loop hw ok hx hy hp 5 0 0 32 _ _ _ _ _ _ _ _ _ _ _ _ _ (by omega) (by decide) (by decide) ?_ (Or.inl rfl)
  intro q
  have := (r_P0 hx hy).mp q
  omega
/-! the reference's -/
theorem yr_113 {post : Int32 → SY → Prop} {w3 : Int32} {nm : Nat → Int32} {w : Nat → Int} (hw : ∀ j, nm j = zi (w j)) (ok : q_ok w) {x y : Int} (hx : -16 ≤ x ∧ x ≤ 15) (hy : -16 ≤ y ∧ y ≤ 15) {x3 : Int32} {r : Nat} (hr : r < 32)
    {J : Int32 → Int32 → Int32 → Int32 → Int32 → Prop}
    (hA : r_P w x y x3.toInt r → ∀ v : SY, v.2.2.2.2 = nm → (r = 0 → post (-2) v) ∧ (∀ s, r = s + 1 → post (nI s) v))
    (hB : ¬ r_P w x y x3.toInt r → ∀ a b c d : Int32, J (nI (r + 1)) a b c d) :
    wY_radius_113 post J (zi x) (zi y) x3 (nI r) (zi (r_hi y r)) (zi (r_lo x r)) (zi (r_hi x r)) (zi (r_lo y r)) w3 nm := by
  have gB := r_bx_gd (r := r) hx hy (by omega)
  unfold wY_radius_113
  refine ya_above hw ok gB ?_
  intro q hs
  rcases s_fa_n gB hs with ⟨_, e, h⟩ | ⟨_, e, h⟩
  · refine br_t e (nm_r (nI_1 r) (hB ?_ _ _ _ _))
    rintro ⟨x', y', h1, h2⟩
    have := h x' y' h1
    omega
  · have h' := hA h (zi (r_lo x r), zi (r_hi x r), zi (r_lo y r), zi (r_hi y r), nm) rfl
    refine br_f e ?_
    cases r with
    | zero => exact br_t rfl (h'.1 rfl)
    | succ s =>
      refine br_f (nI_ne0 (by omega) (by omega)) ?_
      rw [nI_pred]
      exact h'.2 s rfl
theorem yr_91 {post : Int32 → SY → Prop} {w0 w1 w2 w3 : Int32} {nm : Nat → Int32} {J : Int32 → Int32 → Int32 → Int32 → Int32 → Prop} {x1 x3 z0 : Int32} {y : Int} (hy : -16 ≤ y ∧ y ≤ 15) {r : Nat} (hr : r < 32)
    (h : wY_radius_113 post J x1 (zi y) x3 (nI r) (zi (r_hi y r)) w0 w1 z0 w3 nm) : wY_radius_91 post J x1 (zi y) x3 (nI r) z0 w0 w1 w2 w3 nm := by
  have e0 : zi y + nI r = zi (y + r) := by rw [zi_nI, zi_add]
  unfold wY_radius_91
  rw [e0, zi_15]
  refine zi_iff (zi_le (by omega) (by omega) (by omega) (by omega)) (fun z => ?_) (fun z => ?_)
  · have e : r_hi y r = y + r := if_pos z
    rw [e] at h
    exact h
  · have e : r_hi y r = 15 := if_neg z
    rw [e] at h
    exact h
theorem yr_69 {post : Int32 → SY → Prop} {w0 w1 w2 w3 : Int32} {nm : Nat → Int32} {J : Int32 → Int32 → Int32 → Int32 → Int32 → Prop} {x1 x3 z0 : Int32} {y : Int} (hy : -16 ≤ y ∧ y ≤ 15) {r : Nat} (hr : r < 32)
    (h : wY_radius_91 post J x1 (zi y) x3 (nI r) (zi (r_lo y r)) w0 z0 w2 w3 nm) : wY_radius_69 post J x1 (zi y) x3 (nI r) z0 w0 w1 w2 w3 nm := by
  have e0 : zi y - nI r = zi (y - r) := by rw [zi_nI, zi_sub]
  unfold wY_radius_69
  rw [e0, zi_m16]
  refine zi_iff (zi_le (by omega) (by omega) (by omega) (by omega)) (fun z => ?_) (fun z => ?_)
  · have e : r_lo y r = y - r := if_pos z
    rw [e] at h
    exact h
  · have e : r_lo y r = -16 := if_neg z
    rw [e] at h
    exact h
theorem yr_47 {post : Int32 → SY → Prop} {w0 w1 w2 w3 : Int32} {nm : Nat → Int32} {J : Int32 → Int32 → Int32 → Int32 → Int32 → Prop} {x2 x3 z0 : Int32} {x : Int} (hx : -16 ≤ x ∧ x ≤ 15) {r : Nat} (hr : r < 32)
    (h : wY_radius_69 post J (zi x) x2 x3 (nI r) (zi (r_hi x r)) z0 w1 w2 w3 nm) : wY_radius_47 post J (zi x) x2 x3 (nI r) z0 w0 w1 w2 w3 nm := by
  have e0 : zi x + nI r = zi (x + r) := by rw [zi_nI, zi_add]
  unfold wY_radius_47
  rw [e0, zi_15]
  refine zi_iff (zi_le (by omega) (by omega) (by omega) (by omega)) (fun z => ?_) (fun z => ?_)
  · have e : r_hi x r = x + r := if_pos z
    rw [e] at h
    exact h
  · have e : r_hi x r = 15 := if_neg z
    rw [e] at h
    exact h
theorem yr_loop {post : Int32 → SY → Prop} {nm : Nat → Int32} {w : Nat → Int} (hw : ∀ j, nm j = zi (w j)) (ok : q_ok w) {x y : Int} (hx : -16 ≤ x ∧ x ≤ 15) (hy : -16 ≤ y ∧ y ≤ 15) {x3 : Int32}
    (hp0 : r_P w x y x3.toInt 0 → ∀ v : SY, v.2.2.2.2 = nm → post (-2) v)
    (hp : ∀ (g : Nat) (v : SY), r_S w x y x3.toInt g → v.2.2.2.2 = nm → post (nI g) v) :
    ∀ (d r : Nat) (w0 w1 w2 w3 : Int32), r + d = 32 → (∀ s : Nat, s < r → ¬ r_P w x y x3.toInt s) → wY_radius_21 post (zi x) (zi y) x3 nm (d + 1) (nI r) w0 w1 w2 w3 := by
  intro d
  induction d with
  | zero =>
    intro r w0 w1 w2 w3 hd hI
    obtain rfl : r = 32 := by omega
    simp only [wY_radius_21]
    exact br_t (by decide) (hp 31 _ ⟨by omega, hI 31 (by omega), Or.inl rfl⟩ rfl)
  | succ d ih =>
    intro r w0 w1 w2 w3 hd hI
    have e0 : zi x - nI r = zi (x - r) := by rw [zi_nI, zi_sub]
    have key : wY_radius_47 post (wY_radius_21 post (zi x) (zi y) x3 nm (d + 1)) (zi x) (zi y) x3 (nI r) (zi (r_lo x r)) w0 w1 w2 w3 nm := by
      refine yr_47 hx (by omega) (yr_69 hy (by omega) (yr_91 hy (by omega) (yr_113 hw ok hx hy (by omega) ?_ ?_)))
      · intro hP v hv
        refine ⟨fun z => ?_, fun s z => ?_⟩
        · subst z
          exact hp0 hP v hv
        · subst z
          refine hp s v ⟨by omega, hI s (by omega), Or.inr ?_⟩ hv
          rw [show ((s : Int) + 1) = ((s + 1 : Nat) : Int) by omega]
          exact hP
      · intro hP a b c d'
        exact ih (r + 1) _ _ _ _ (by omega) (lt_s hI hP)
    simp only [wY_radius_21, e0]
    refine br_f (nI_ge (b := 32) (by omega) (by decide)) ?_
    rw [zi_m16]
    refine zi_iff (zi_le (by omega) (by omega) (by omega) (by omega)) (fun z => ?_) (fun z => ?_)
    · have e : r_lo x r = x - r := if_pos z
      rw [e] at key
      exact key
    · have e : r_lo x r = -16 := if_neg z
      rw [e] at key
      exact key
theorem yr_radius {post : Int32 → SY → Prop} {w0 w1 w2 w3 : Int32} {nm : Nat → Int32} {w : Nat → Int} (hw : ∀ j, nm j = zi (w j)) (ok : q_ok w) {x y : Int} (hx : -16 ≤ x ∧ x ≤ 15) (hy : -16 ≤ y ∧ y ≤ 15) {x3 : Int32}
    (hp0 : r_P w x y x3.toInt 0 → ∀ v : SY, v.2.2.2.2 = nm → post (-2) v)
    (hp : ∀ (g : Nat) (v : SY), r_S w x y x3.toInt g → v.2.2.2.2 = nm → post (nI g) v) :
    wpY_radius post (w0, w1, w2, w3, nm) (zi x) (zi y) x3 := by
  unfold wpY_radius
  dsimp only
  refine in_yok hx (br_t rfl (in_yok hy (br_t rfl ⟨33, ?_⟩)))
  exact yr_loop hw ok hx hy hp0 hp 32 0 _ _ _ _ (by omega) lt_0
end
section
/-! ===== for the owed rows ===== -/
theorem iv_two (p q : Int32) : (∃ a b c d : Nat, a ≤ b ∧ b < 32 ∧ c ≤ d ∧ d < 32 ∧ p = nI (32 * a + b) ∧ q = nI (32 * c + d)) ∨
    ((∀ A B : Prop, A → wpX_isInterval (fun r => (r = 0 → A) ∧ (¬ r = 0 → wpX_isInterval (fun r' => (r' = 0 → A) ∧ (¬ r' = 0 → B)) q)) p) ∧
     (∀ (post : Int32 → SY → Prop) (w0 w1 w2 w3 : Int32) (nm : Nat → Int32), post 0 (w0, w1, w2, w3, nm) → wpY_take post (w0, w1, w2, w3, nm) p q)) := by
  rcases iv_cases p with ⟨a, b, hab, hb, rfl⟩ | ⟨bx, by'⟩
  · rcases iv_cases q with ⟨c, d, hcd, hd, rfl⟩ | ⟨bx, by'⟩
    · exact Or.inl ⟨a, b, c, d, hab, hb, hcd, hd, rfl, rfl⟩
    · exact Or.inr ⟨fun A B hA => iv_xok hab hb (br_f xb_10 (bx _ (br_t rfl hA))), fun post w0 w1 w2 w3 nm hp => iv_take0 (Or.inr ⟨⟨a, b, hab, hb, rfl⟩, by'⟩) hp⟩
  · exact Or.inr ⟨fun A B hA => bx _ (br_t rfl hA), fun post w0 w1 w2 w3 nm hp => iv_take0 (Or.inl by') hp⟩
theorem iv_xtwo {A B : Prop} {a b c d : Nat} (hab : a ≤ b) (hb : b < 32) (hcd : c ≤ d) (hd : d < 32) (hB : B) :
    wpX_isInterval (fun r => (r = 0 → A) ∧ (¬ r = 0 → wpX_isInterval (fun r' => (r' = 0 → A) ∧ (¬ r' = 0 → B)) (nI (32 * c + d)))) (nI (32 * a + b)) :=
  iv_xok hab hb (br_f xb_10 (iv_xok hcd hd (br_f xb_10 hB)))
theorem in_two (p q : Int32) : (∃ x y : Int, (-16 ≤ x ∧ x ≤ 15) ∧ (-16 ≤ y ∧ y ≤ 15) ∧ p = zi x ∧ q = zi y) ∨
    ((∀ A B : Prop, A → wpX_isInput (fun r => (r = 0 → A) ∧ (¬ r = 0 → wpX_isInput (fun r' => (r' = 0 → A) ∧ (¬ r' = 0 → B)) q)) p) ∧
     (∀ (A B : Prop) (v : SY), A → wpY_bad (fun r => (r = 0 → wpY_bad (fun r' => (r' = 0 → B) ∧ (¬ r' = 0 → A)) v q) ∧ (¬ r = 0 → A)) v p)) := by
  rcases in_cases p with ⟨x, hx, rfl⟩ | ⟨bx, by'⟩
  · rcases in_cases q with ⟨y, hy, rfl⟩ | ⟨bx, by'⟩
    · exact Or.inl ⟨x, y, hx, hy, rfl, rfl⟩
    · exact Or.inr ⟨fun A B hA => in_xok hx (br_f xb_10 (bx _ (br_t rfl hA))), fun A B v hA => in_yok hx (br_t rfl (by' _ v (br_f xb_10 hA)))⟩
  · exact Or.inr ⟨fun A B hA => bx _ (br_t rfl hA), fun A B v hA => by' _ v (br_f xb_10 hA)⟩
theorem in_xtwo {A B : Prop} {x y : Int} (hx : -16 ≤ x ∧ x ≤ 15) (hy : -16 ≤ y ∧ y ≤ 15) (hB : B) : wpX_isInput (fun r => (r = 0 → A) ∧ (¬ r = 0 → wpX_isInput (fun r' => (r' = 0 → A) ∧ (¬ r' = 0 → B)) (zi y))) (zi x) :=
  in_xok hx (br_f xb_10 (in_xok hy (br_f xb_10 hB)))
theorem in_ytwo {A B : Prop} {v : SY} {x y : Int} (hx : -16 ≤ x ∧ x ≤ 15) (hy : -16 ≤ y ∧ y ≤ 15) (hB : B) : wpY_bad (fun r => (r = 0 → wpY_bad (fun r' => (r' = 0 → B) ∧ (¬ r' = 0 → A)) v (zi y)) ∧ (¬ r = 0 → A)) v (zi x) :=
  in_yok hx (br_t rfl (in_yok hy (br_t rfl hB)))
/-- extreme, its target and sign as they stand -/
theorem xe_ext {post : Int32 → SX → Prop} {fw fb : Int32} {nm un lo hi f0 f1 re li le ri bo tp : Nat → Int32} {w : Nat → Int} (hw : ∀ j, nm j = zi (w j)) (ok : q_ok w) (t : Nat) (ht : t < 6) (sg : Int) (hsg : sg = 1 ∨ sg = -1) {T S : Int32} (eT : T = nI t) (eS : S = zi sg)
    {a b c d : Nat} (hab : a ≤ b) (hb : b < 32) (hcd : c ≤ d) (hd : d < 32)
    (hp : ∀ (M : Int) (fw fb : Int32) (un lo hi f0 f1 re li le ri bo tp : Nat → Int32), s_max (fun x y => sg * q_sm w t x y) (b_of a b c d) M → post (zi M) (fw, fb, nm, un, lo, hi, f0, f1, re, li, le, ri, bo, tp)) :
    wpX_extreme post (fw, fb, nm, un, lo, hi, f0, f1, re, li, le, ri, bo, tp) (nI (32 * a + b)) (nI (32 * c + d)) T S := by
  subst eT eS
  refine xe_extreme hw ok ht hsg hab hb hcd hd ?_
  intro M u' hM hu
  obtain ⟨fw', fb', nm', un', lo', hi', f0', f1', re', li', le', ri', bo', tp'⟩ := u'
  obtain rfl : nm' = nm := hu
  exact hp M _ _ _ _ _ _ _ _ _ _ _ _ _ hM
theorem xf_fa {post : Int32 → SX → Prop} {fw fb : Int32} {nm un lo hi f0 f1 re li le ri bo tp : Nat → Int32} {w : Nat → Int} (hw : ∀ j, nm j = zi (w j)) (ok : q_ok w) {x3 : Int32}
    {a b c d : Nat} (hab : a ≤ b) (hb : b < 32) (hcd : c ≤ d) (hd : d < 32)
    (hp : ∀ (r fw fb : Int32) (un lo hi f0 f1 re li le ri bo tp : Nat → Int32), s_fa (q_sm w 5) (b_of a b c d) x3.toInt r → post r (fw, fb, nm, un, lo, hi, f0, f1, re, li, le, ri, bo, tp)) :
    wpX_firstAbove post (fw, fb, nm, un, lo, hi, f0, f1, re, li, le, ri, bo, tp) (nI (32 * a + b)) (nI (32 * c + d)) x3 := by
  refine xf_above hw ok hab hb hcd hd ?_
  intro r u' hr hu
  obtain ⟨fw', fb', nm', un', lo', hi', f0', f1', re', li', le', ri', bo', tp'⟩ := u'
  obtain rfl : nm' = nm := hu
  exact hp r _ _ _ _ _ _ _ _ _ _ _ _ _ hr
theorem ye_ext {post : Int32 → Prop} {nm : Nat → Int32} {w : Nat → Int} (hw : ∀ j, nm j = zi (w j)) (ok : q_ok w) {l0 h0 l1 h1 : Int} (gB : q_gb l0 h0 l1 h1) (sg : Int) (hsg : sg = 1 ∨ sg = -1) {S : Int32} (eS : S = zi sg)
    (hp : ∀ M : Int, s_max (fun x y => sg * q_sm w 5 x y) (l0, h0, l1, h1) M → post (zi (sg * M))) :
    wpY_extreme post (zi l0, zi h0, zi l1, zi h1, nm) S := by
  subst eS
  exact ye_extreme hw ok gB hsg hp
/-! offsets -/
theorem ow_xo {post : Int32 → Prop} {j : Nat} (hj : j < 20) (h1 : q_of j → post 1) (h0 : ¬ q_of j → post 0) : wpX_isOffset post (nI j) := by
  unfold q_of at h1 h0
  have h12 : ¬ (6 ≤ j ∧ j ≤ 8) → wX_isOffset_12 post (nI j) := fun hn => by
    unfold wX_isOffset_12
    exact pk_eq j 15 (fun h => h1 (by omega)) (fun h => pk_eq j 16 (fun h => h1 (by omega)) (fun h' => pk_eq j 19 (fun _ => h1 (by omega)) (fun _ => h0 (by omega))))
  unfold wpX_isOffset
  exact pk_lt j 6 (fun h => h12 (by omega)) (fun h => pk_le j 8 (fun h' => h1 (by omega)) (fun h' => h12 (by omega)))
theorem ow_yo {post : Int32 → Prop} {w0 w1 w2 w3 : Int32} {nm : Nat → Int32} {j : Nat} (hj : j < 20) (h1 : q_of j → post 1) (h0 : ¬ q_of j → post 0) : wpY_offset post (w0, w1, w2, w3, nm) (nI j) := by
  unfold q_of at h1 h0
  have h12 : ¬ (6 ≤ j ∧ j ≤ 8) → wY_offset_11 post (nI j) w0 w1 w2 w3 nm := fun hn => by
    unfold wY_offset_11
    exact pk_eq j 15 (fun h => h1 (by omega)) (fun h => pk_eq j 16 (fun h => h1 (by omega)) (fun h' => pk_eq j 19 (fun _ => h1 (by omega)) (fun _ => h0 (by omega))))
  unfold wpY_offset
  dsimp only
  exact pk_le j 5 (fun h => h12 (by omega)) (fun h => pk_lt j 9 (fun h' => h1 (by omega)) (fun h' => h12 (by omega)))
/-! the numbers of an object -/
def n_ok (nm : Nat → Int32) : Prop := q_ok (fun j => (nm j).toInt)
theorem n_ok_u {nm : Nat → Int32} (h : n_ok nm) {j : Nat} {v : Int32} (h1 : -50 ≤ v.toInt ∧ v.toInt ≤ 50) (h2 : ¬ q_of j → -5 ≤ v.toInt ∧ v.toInt ≤ 5) : n_ok (upd nm j v) := by
  intro i hi
  by_cases z : i = j
  · subst z
    show (-50 ≤ (upd nm i v i).toInt ∧ (upd nm i v i).toInt ≤ 50) ∧ (¬ q_of i → -5 ≤ (upd nm i v i).toInt ∧ (upd nm i v i).toInt ≤ 5)
    rw [pk_us]
    exact ⟨h1, h2⟩
  · show (-50 ≤ (upd nm j v i).toInt ∧ (upd nm j v i).toInt ≤ 50) ∧ (¬ q_of i → -5 ≤ (upd nm j v i).toInt ∧ (upd nm j v i).toInt ≤ 5)
    rw [pk_un z]
    exact h i hi
/-! sow -/
theorem ow_o41 {s b p : Nat} (hs : s ≤ 100) (hb : b ≤ 20) (hp : p < 20) : -20 ≤ (((((nI s * 7) + (5 * nI p)) + (nI b * nI p)) - (((nI s * 7) + (5 * nI p)) + (nI b * nI p)) / 41 * 41) - 20 : Int32).toInt ∧ (((((nI s * 7) + (5 * nI p)) + (nI b * nI p)) - (((nI s * 7) + (5 * nI p)) + (nI b * nI p)) / 41 * 41) - 20 : Int32).toInt ≤ 20 := by
  have e1 : nI s * 7 = nI (s * 7) := pk_mul s 7
  have e2 : (5 : Int32) * nI p = nI (5 * p) := pk_mul 5 p
  have hbp : b * p ≤ 20 * 20 := Nat.mul_le_mul hb (by omega)
  rw [e1, e2, pk_mul, nI_add, nI_add]
  have e3 := pk_rem (a := s * 7 + 5 * p + b * p) (d := 41) (by omega) (by decide) (by decide)
  have e4 : nI (s * 7 + 5 * p + b * p) - nI (s * 7 + 5 * p + b * p) / 41 * 41 = nI ((s * 7 + 5 * p + b * p) % 41) := e3
  rw [e4]
  have e5 : (nI ((s * 7 + 5 * p + b * p) % 41) - 20 : Int32).toInt = (((s * 7 + 5 * p + b * p) % 41 : Nat) : Int) - (20 : Nat) := pk_sub_toInt (by omega) (by decide)
  rw [e5]
  omega
theorem ow_o11 {s b p : Nat} (hs : s ≤ 100) (hb : b ≤ 20) (hp : p < 20) : -5 ≤ ((((nI s + (3 * nI p)) + ((nI p * nI p) * nI b)) - ((nI s + (3 * nI p)) + ((nI p * nI p) * nI b)) / 11 * 11) - 5 : Int32).toInt ∧ ((((nI s + (3 * nI p)) + ((nI p * nI p) * nI b)) - ((nI s + (3 * nI p)) + ((nI p * nI p) * nI b)) / 11 * 11) - 5 : Int32).toInt ≤ 5 := by
  have e2 : (3 : Int32) * nI p = nI (3 * p) := pk_mul 3 p
  have hpp : p * p ≤ 20 * 20 := Nat.mul_le_mul (by omega) (by omega)
  have hppb : p * p * b ≤ 400 * 20 := Nat.mul_le_mul hpp hb
  rw [e2, pk_mul, pk_mul, nI_add, nI_add]
  have e4 : nI (s + 3 * p + p * p * b) - nI (s + 3 * p + p * p * b) / 11 * 11 = nI ((s + 3 * p + p * p * b) % 11) := pk_rem (a := s + 3 * p + p * p * b) (d := 11) (by omega) (by decide) (by decide)
  rw [e4]
  have e5 : (nI ((s + 3 * p + p * p * b) % 11) - 5 : Int32).toInt = (((s + 3 * p + p * p * b) % 11 : Nat) : Int) - (5 : Nat) := pk_sub_toInt (by omega) (by decide)
  rw [e5]
  omega
theorem ow_sow {s b : Nat} (hs : s ≤ 100) (hb : b ≤ 20) : ∀ (d p : Nat) (nm : Nat → Int32), p + d = 20 → n_ok nm → ∃ nm', n_ok nm' ∧
    (∀ (post : Int32 → SX → Prop) (fw fb : Int32) (un lo hi f0 f1 re li le ri bo tp : Nat → Int32), post 0 (fw, fb, nm', un, lo, hi, f0, f1, re, li, le, ri, bo, tp) → wX_sow_27 post (nI s) (nI b) fw fb (d + 1) (nI p) nm un lo hi f0 f1 re li le ri bo tp) ∧
    (∀ (post : Int32 → SY → Prop) (w0 w1 w2 w3 : Int32), post 0 (w0, w1, w2, w3, nm') → wY_sow_27 post (nI s) (nI b) w0 w1 w2 w3 (d + 1) (nI p) nm) := by
  intro d
  induction d with
  | zero =>
    intro p nm hd hok
    obtain rfl : p = 20 := by omega
    refine ⟨nm, hok, fun post fw fb un lo hi f0 f1 re li le ri bo tp hp => ?_, fun post w0 w1 w2 w3 hp => ?_⟩
    · simp only [wX_sow_27]
      exact br_t (by decide) hp
    · simp only [wY_sow_27]
      exact br_t (by decide) hp
  | succ d ih =>
    intro p nm hd hok
    have h20 : ¬ (20 : Int32) ≤ nI p := nI_ge (b := 20) (by omega) (by decide)
    have hin : vp_in (nI p) 20 := vp_in_nI (by omega) (by decide)
    have hc : (nI p).toNatClampNeg = p := nI_clamp (by omega)
    have n11 : ¬ (11 : Int32) = 0 := by decide
    have n41 : ¬ (41 : Int32) = 0 := by decide
    by_cases z : q_of p
    · have hv := ow_o41 hs hb (p := p) (by omega)
      obtain ⟨nm', hok', hX, hY⟩ := ih (p + 1) _ (by omega) (n_ok_u hok (j := p) ⟨Int.le_trans (show (-50 : Int) ≤ -20 by decide) hv.1, Int.le_trans hv.2 (by decide)⟩ (fun q => absurd z q))
      refine ⟨nm', hok', fun post fw fb un lo hi f0 f1 re li le ri bo tp hp => ?_, fun post w0 w1 w2 w3 hp => ?_⟩
      · simp only [wX_sow_27, hc]
        exact br_f h20 ⟨n41, nm_e ⟨n11, nm_e (ow_xo (by omega) (fun _ => br_f xb_10 ⟨hin, nm_e (nm_r (nI_1 p) (hX _ _ _ _ _ _ _ _ _ _ _ _ _ _ hp))⟩) (fun q => absurd z q))⟩⟩
      · simp only [wY_sow_27, hc]
        exact br_f h20 (ow_yo (by omega) (fun _ => br_f xb_10 ⟨n41, hin, nm_e (nm_r (nI_1 p) (hY _ _ _ _ _ hp))⟩) (fun q => absurd z q))
    · have hv := ow_o11 hs hb (p := p) (by omega)
      obtain ⟨nm', hok', hX, hY⟩ := ih (p + 1) _ (by omega) (n_ok_u hok (j := p) ⟨Int.le_trans (show (-50 : Int) ≤ -5 by decide) hv.1, Int.le_trans hv.2 (by decide)⟩ (fun _ => hv))
      refine ⟨nm', hok', fun post fw fb un lo hi f0 f1 re li le ri bo tp hp => ?_, fun post w0 w1 w2 w3 hp => ?_⟩
      · simp only [wX_sow_27, hc]
        exact br_f h20 ⟨n41, nm_e ⟨n11, nm_e (ow_xo (by omega) (fun q => absurd q z) (fun _ => br_t rfl ⟨hin, nm_e (nm_r (nI_1 p) (hX _ _ _ _ _ _ _ _ _ _ _ _ _ _ hp))⟩))⟩⟩
      · simp only [wY_sow_27, hc]
        exact br_f h20 (ow_yo (by omega) (fun q => absurd q z) (fun _ => br_t rfl ⟨n11, hin, nm_e (nm_r (nI_1 p) (hY _ _ _ _ _ hp))⟩))
end
section
/-! ===== what is owed ===== -/
/-- the relation at the head of a turn: the same numbers, each within its bounds; all else is scratch -/
def i_Rel (k : Nat) (u : SX) (v : SY) : Prop := u.2.2.1 = v.2.2.2.2 ∧ n_ok u.2.2.1
theorem i_up {k : Nat} {u : SX} {v : SY} (h : i_Rel k u v) : i_Rel (k + 4) u v := h
theorem i_vc0 : wpX_init (fun u => wpY_init (fun v => i_Rel 0 u v)) := by
  refine ⟨rfl, fun j _ => ?_⟩
  show (-50 ≤ (0 : Int32).toInt ∧ (0 : Int32).toInt ≤ 50) ∧ (¬ q_of j → -5 ≤ (0 : Int32).toInt ∧ (0 : Int32).toInt ≤ 5)
  have z : (0 : Int32).toInt = 0 := by decide
  rw [z]
  exact ⟨by omega, fun _ => by omega⟩
/-- opening a related pair -/
theorem ow_el {P : SX → SY → Prop} {k : Nat} {u : SX} {v : SY} (I : i_Rel k u v)
    (h : ∀ (fw fb : Int32) (nm un lo hi f0 f1 re li le ri bo tp : Nat → Int32) (w0 w1 w2 w3 : Int32), n_ok nm → P (fw, fb, nm, un, lo, hi, f0, f1, re, li, le, ri, bo, tp) (w0, w1, w2, w3, nm)) : P u v := by
  obtain ⟨fw, fb, nm, un, lo, hi, f0, f1, re, li, le, ri, bo, tp⟩ := u
  obtain ⟨w0, w1, w2, w3, nm'⟩ := v
  obtain ⟨e, ok⟩ := I
  obtain rfl : nm = nm' := e
  exact h _ _ _ _ _ _ _ _ _ _ _ _ _ _ _ _ _ _ ok
theorem ow_w (nm : Nat → Int32) : ∀ j, nm j = zi ((fun j => (nm j).toInt) j) := fun j => zi_of (nm j)
/-- set, behind the place's limit -/
theorem ow_yset {post : Int32 → SY → Prop} {w0 w1 w2 w3 : Int32} {nm : Nat → Int32} {j : Nat} (hj : j < 20) {v2 L : Int32} (hL : (L = 50 ∧ q_of j) ∨ (L = 5 ∧ ¬ q_of j))
    (h : wY_set_26 post (nI j) v2 L w0 w1 w2 w3 nm) : wpY_set post (w0, w1, w2, w3, nm) (nI j) v2 := by
  have h0 : ¬ nI j < 0 := nI_pos (by omega)
  have h1 : nI j ≤ 19 := nI_le (b := 19) (by omega) (by decide)
  unfold wpY_set
  dsimp only
  refine br_f h0 (br_t h1 ?_)
  rcases hL with ⟨rfl, hq⟩ | ⟨rfl, hq⟩
  · exact ow_yo hj (fun _ => br_f xb_10 h) (fun z => absurd hq z)
  · exact ow_yo hj (fun z => absurd z hq) (fun _ => br_t rfl h)
theorem ow_set {k : Nat} {fw fb : Int32} {nm un lo hi f0 f1 re li le ri bo tp : Nat → Int32} {w0 w1 w2 w3 : Int32} (ok : n_ok nm) {j : Nat} (hj : j < 20) {v2 L : Int32} (hL : (L = 50 ∧ q_of j) ∨ (L = 5 ∧ ¬ q_of j)) :
    wX_set_25 (fun r u' => wpY_set (fun r' v' => r' = r ∧ i_Rel (k + 4) u' v') (w0, w1, w2, w3, nm) (nI j) v2) (nI j) v2 L fw fb nm un lo hi f0 f1 re li le ri bo tp := by
  have hin : vp_in (nI j) 20 := vp_in_nI hj (by decide)
  have hc : (nI j).toNatClampNeg = j := nI_clamp (by omega)
  have z1 : (50 : Int32).toInt = 50 := by decide
  have z2 : (-50 : Int32).toInt = -50 := by decide
  have z3 : (5 : Int32).toInt = 5 := by decide
  have z4 : (-5 : Int32).toInt = -5 := by decide
  unfold wX_set_25
  by_cases h1 : v2 < -L
  · exact br_t h1 (ow_yset hj hL (br_t h1 ⟨rfl, rfl, ok⟩))
  · by_cases h2 : v2 ≤ L
    · have ok' : n_ok (upd nm j v2) := by
        have h1' := h1
        have h2' := h2
        rw [Int32.lt_iff_toInt_lt] at h1'
        rw [Int32.le_iff_toInt_le] at h2'
        rcases hL with ⟨rfl, hq⟩ | ⟨rfl, hq⟩
        · rw [z2] at h1'
          rw [z1] at h2'
          exact n_ok_u ok ⟨by omega, by omega⟩ (fun z => absurd hq z)
        · rw [z4] at h1'
          rw [z3] at h2'
          exact n_ok_u ok ⟨by omega, by omega⟩ (fun _ => ⟨by omega, by omega⟩)
      refine br_f h1 (br_t h2 ⟨hin, ?_⟩)
      unfold wX_set_55
      rw [hc]
      by_cases h3 : nm j = v2
      · refine br_t h3 ⟨hin, nm_e (ow_yset hj hL (br_f h1 (br_t h2 ⟨hin, ?_⟩)))⟩
        unfold wY_set_56
        rw [hc]
        exact br_t h3 ⟨hin, nm_e ⟨rfl, rfl, ok'⟩⟩
      · refine br_f h3 ⟨hin, nm_e (ow_yset hj hL (br_f h1 (br_t h2 ⟨hin, ?_⟩)))⟩
        unfold wY_set_56
        rw [hc]
        exact br_f h3 ⟨hin, nm_e ⟨rfl, rfl, ok'⟩⟩
    · exact br_f h1 (br_f h2 (ow_yset hj hL (br_f h1 (br_f h2 ⟨rfl, rfl, ok⟩))))
theorem i_vc_set {k : Nat} {u : SX} {v : SY} (I : i_Rel k u v) (hk : k + 4 ≤ 2048) (v1 : Int32) (v2 : Int32) : wpX_set (fun r u' => wpY_set (fun r' v' => r' = r ∧ i_Rel (k + 4) u' v') v v1 v2) u v1 v2 := by
  refine ow_el (P := fun u v => wpX_set (fun r u' => wpY_set (fun r' v' => r' = r ∧ i_Rel (k + 4) u' v') v v1 v2) u v1 v2) I ?_
  intro fw fb nm un lo hi f0 f1 re li le ri bo tp w0 w1 w2 w3 ok
  by_cases h0 : v1 < 0
  · exact br_t h0 (br_t h0 ⟨rfl, rfl, ok⟩)
  · by_cases h1 : v1 ≤ 19
    · obtain ⟨j, hj, rfl⟩ := nI_of2 (n := 19) (by decide) h0 h1
      refine br_f h0 (br_t h1 ?_)
      refine ow_xo (by omega) (fun hq => br_f xb_10 ?_) (fun hq => br_t rfl ?_)
      · exact ow_set ok (by omega) (Or.inl ⟨rfl, hq⟩)
      · exact ow_set ok (by omega) (Or.inr ⟨rfl, hq⟩)
    · exact br_f h0 (br_f h1 (br_f h0 (br_f h1 ⟨rfl, rfl, ok⟩)))
theorem i_vc_sow {k : Nat} {u : SX} {v : SY} (I : i_Rel k u v) (hk : k + 4 ≤ 2048) (v1 : Int32) (v2 : Int32) : wpX_sow (fun r u' => wpY_sow (fun r' v' => r' = r ∧ i_Rel (k + 4) u' v') v v1 v2) u v1 v2 := by
  refine ow_el (P := fun u v => wpX_sow (fun r u' => wpY_sow (fun r' v' => r' = r ∧ i_Rel (k + 4) u' v') v v1 v2) u v1 v2) I ?_
  intro fw fb nm un lo hi f0 f1 re li le ri bo tp w0 w1 w2 w3 ok
  by_cases h0 : v1 < 0
  · exact br_t h0 (br_t h0 ⟨rfl, rfl, ok⟩)
  · by_cases h1 : v1 ≤ 100
    · by_cases h2 : v2 < 0
      · exact br_f h0 (br_t h1 (br_t h2 (br_f h0 (br_t h1 (br_t h2 ⟨rfl, rfl, ok⟩)))))
      · by_cases h3 : v2 ≤ 20
        · obtain ⟨s, hs, rfl⟩ := nI_of2 (n := 100) (by decide) h0 h1
          obtain ⟨b, hb, rfl⟩ := nI_of2 (n := 20) (by decide) h2 h3
          obtain ⟨nm', ok', hX, hY⟩ := ow_sow hs hb 20 0 nm (by omega) ok
          exact br_f h0 (br_t h1 (br_f h2 (br_t h3 ⟨21, hX _ _ _ _ _ _ _ _ _ _ _ _ _ _ (br_f h0 (br_t h1 (br_f h2 (br_t h3 ⟨21, hY _ _ _ _ _ ⟨rfl, rfl, ok'⟩⟩))))⟩)))
        · exact br_f h0 (br_t h1 (br_f h2 (br_f h3 (br_f h0 (br_t h1 (br_f h2 (br_f h3 ⟨rfl, rfl, ok⟩)))))))
    · exact br_f h0 (br_f h1 (br_f h0 (br_f h1 ⟨rfl, rfl, ok⟩)))
theorem i_vc_get {k : Nat} {u : SX} {v : SY} (I : i_Rel k u v) (hk : k + 4 ≤ 2048) (v1 : Int32) : wpX_get (fun r => wpY_get (fun r' => r' = r ∧ i_Rel (k + 4) u v) v v1) u v1 := by
  refine ow_el (P := fun u v => wpX_get (fun r => wpY_get (fun r' => r' = r ∧ i_Rel (k + 4) u v) v v1) u v1) I ?_
  intro fw fb nm un lo hi f0 f1 re li le ri bo tp w0 w1 w2 w3 ok
  by_cases h0 : v1 < 0
  · exact br_t h0 (br_t h0 ⟨rfl, rfl, ok⟩)
  · by_cases h1 : v1 ≤ 19
    · have h1' : ¬ 19 < v1 := Int32.not_lt.mpr h1
      obtain ⟨j, hj, rfl⟩ := nI_of2 (n := 19) (by decide) h0 h1
      have hin : vp_in (nI j) 20 := vp_in_nI (by omega) (by decide)
      exact br_f h0 (br_f h1' ⟨hin, br_f h0 (br_t h1 ⟨hin, rfl, rfl, ok⟩)⟩)
    · have h1' : 19 < v1 := Int32.not_le.mp h1
      exact br_f h0 (br_t h1' (br_f h0 (br_f h1 ⟨rfl, rfl, ok⟩)))
theorem i_vc_result {k : Nat} {u : SX} {v : SY} (I : i_Rel k u v) (hk : k + 4 ≤ 2048) (v1 : Int32) (v2 : Int32) : wpX_result (fun r u' => wpY_result (fun r' => r' = r ∧ i_Rel (k + 4) u' v) v v1 v2) u v1 v2 := by
  refine ow_el (P := fun u v => wpX_result (fun r u' => wpY_result (fun r' => r' = r ∧ i_Rel (k + 4) u' v) v v1 v2) u v1 v2) I ?_
  intro fw fb nm un lo hi f0 f1 re li le ri bo tp w0 w1 w2 w3 ok
  unfold wpX_result wpY_result
  dsimp only
  rcases in_two v1 v2 with ⟨x, y, hx, hy, rfl, rfl⟩ | ⟨bx, by'⟩
  · refine in_xtwo hx hy ?_
    refine xw_work (ow_w nm) ok (by omega) (by omega) ?_
    intro un' hun
    dsimp only
    refine in_ytwo hx hy ?_
    refine yg_given (ow_w nm) ok (by omega) (by omega) ?_
    rw [hun 5 (by omega)]
    exact ⟨rfl, rfl, ok⟩
  · exact bx _ _ (by' _ _ _ ⟨rfl, rfl, ok⟩)
theorem i_vc_unit {k : Nat} {u : SX} {v : SY} (I : i_Rel k u v) (hk : k + 4 ≤ 2048) (v1 : Int32) (v2 : Int32) (v3 : Int32) : wpX_unit (fun r u' => wpY_unit (fun r' => r' = r ∧ i_Rel (k + 4) u' v) v v1 v2 v3) u v1 v2 v3 := by
  refine ow_el (P := fun u v => wpX_unit (fun r u' => wpY_unit (fun r' => r' = r ∧ i_Rel (k + 4) u' v) v v1 v2 v3) u v1 v2 v3) I ?_
  intro fw fb nm un lo hi f0 f1 re li le ri bo tp w0 w1 w2 w3 ok
  unfold wpX_unit wpY_unit
  dsimp only
  by_cases h0 : v1 < 0
  · exact br_t h0 (br_t h0 ⟨rfl, rfl, ok⟩)
  · by_cases h1 : v1 ≤ 4
    · obtain ⟨t, ht, rfl⟩ := nI_of2 (n := 4) (by decide) h0 h1
      have hin : vp_in (nI t) 6 := vp_in_nI (by omega) (by decide)
      have hc : (nI t).toNatClampNeg = t := nI_clamp (by omega)
      refine br_f h0 (br_t h1 ?_)
      rcases in_two v2 v3 with ⟨x, y, hx, hy, rfl, rfl⟩ | ⟨bx, by'⟩
      · refine in_xtwo hx hy ?_
        refine xw_work (ow_w nm) ok (by omega) (by omega) ?_
        intro un' hun
        dsimp only
        have hv := q_sm_b ok t (x := x) (y := y) (by omega) (by omega)
        rw [hc, hun t (by omega)]
        refine ⟨hin, zi_iff (zi_le0 (by omega) (by omega)) (fun z => br_f h0 (br_t h1 (in_ytwo hx hy ?_))) (fun z => ⟨hin, br_f h0 (br_t h1 (in_ytwo hx hy ?_))⟩)⟩
        · refine yg_unit (ow_w nm) ok (by omega) (by omega) (by omega) ?_
          rw [q_clip_n z]
          exact ⟨zi_0.symm, rfl, ok⟩
        · refine yg_unit (ow_w nm) ok (by omega) (by omega) (by omega) ?_
          rw [q_clip_p (by omega)]
          exact ⟨rfl, rfl, ok⟩
      · exact bx _ _ (br_f h0 (br_t h1 (by' _ _ _ ⟨rfl, rfl, ok⟩)))
    · exact br_f h0 (br_f h1 (br_f h0 (br_f h1 ⟨rfl, rfl, ok⟩)))
theorem i_vc_most {k : Nat} {u : SX} {v : SY} (I : i_Rel k u v) (hk : k + 4 ≤ 2048) (v1 : Int32) (v2 : Int32) : wpX_most (fun r u' => wpY_most (fun r' v' => r' = r ∧ i_Rel (k + 4) u' v') v v1 v2) u v1 v2 := by
  refine ow_el (P := fun u v => wpX_most (fun r u' => wpY_most (fun r' v' => r' = r ∧ i_Rel (k + 4) u' v') v v1 v2) u v1 v2) I ?_
  intro fw fb nm un lo hi f0 f1 re li le ri bo tp w0 w1 w2 w3 ok
  unfold wpX_most wpY_most
  dsimp only
  rcases iv_two v1 v2 with ⟨a, b, c, d, hab, hb, hcd, hd, rfl, rfl⟩ | ⟨bx, by'⟩
  · refine iv_xtwo hab hb hcd hd ?_
    refine xe_ext (ow_w nm) ok 5 (by omega) 1 (Or.inl rfl) rfl zi_1 hab hb hcd hd ?_
    intro M fw fb un lo hi f0 f1 re li le ri bo tp hM
    dsimp only
    refine iv_take hab hb hcd hd (br_f xb_10 ?_)
    refine ye_ext (ow_w nm) ok (b_of_gd hab hb hcd hd) 1 (Or.inl rfl) zi_1 ?_
    intro N hN
    have e : M = N := s_max_u hM hN
    subst e
    rw [Int.one_mul]
    exact ⟨rfl, rfl, ok⟩
  · exact bx _ _ (by' _ _ _ _ _ _ (br_t rfl ⟨rfl, rfl, ok⟩))
theorem i_vc_least {k : Nat} {u : SX} {v : SY} (I : i_Rel k u v) (hk : k + 4 ≤ 2048) (v1 : Int32) (v2 : Int32) : wpX_least (fun r u' => wpY_least (fun r' v' => r' = r ∧ i_Rel (k + 4) u' v') v v1 v2) u v1 v2 := by
  refine ow_el (P := fun u v => wpX_least (fun r u' => wpY_least (fun r' v' => r' = r ∧ i_Rel (k + 4) u' v') v v1 v2) u v1 v2) I ?_
  intro fw fb nm un lo hi f0 f1 re li le ri bo tp w0 w1 w2 w3 ok
  unfold wpX_least wpY_least
  dsimp only
  rcases iv_two v1 v2 with ⟨a, b, c, d, hab, hb, hcd, hd, rfl, rfl⟩ | ⟨bx, by'⟩
  · refine iv_xtwo hab hb hcd hd ?_
    refine xe_ext (ow_w nm) ok 5 (by omega) (-1) (Or.inr rfl) rfl zi_m1 hab hb hcd hd ?_
    intro M fw fb un lo hi f0 f1 re li le ri bo tp hM
    dsimp only
    refine iv_take hab hb hcd hd (br_f xb_10 ?_)
    refine ye_ext (ow_w nm) ok (b_of_gd hab hb hcd hd) (-1) (Or.inr rfl) zi_m1 ?_
    intro N hN
    have e : M = N := s_max_u hM hN
    subst e
    refine ⟨?_, rfl, ok⟩
    rw [zi_neg]
    exact congrArg zi (by omega)
  · exact bx _ _ (by' _ _ _ _ _ _ (br_t rfl ⟨rfl, rfl, ok⟩))
theorem i_vc_mostAt {k : Nat} {u : SX} {v : SY} (I : i_Rel k u v) (hk : k + 4 ≤ 2048) (v1 : Int32) (v2 : Int32) : wpX_mostAt (fun r u' => wpY_mostAt (fun r' v' => r' = r ∧ i_Rel (k + 4) u' v') v v1 v2) u v1 v2 := by
  refine ow_el (P := fun u v => wpX_mostAt (fun r u' => wpY_mostAt (fun r' v' => r' = r ∧ i_Rel (k + 4) u' v') v v1 v2) u v1 v2) I ?_
  intro fw fb nm un lo hi f0 f1 re li le ri bo tp w0 w1 w2 w3 ok
  unfold wpX_mostAt wpY_mostAt
  dsimp only
  rcases iv_two v1 v2 with ⟨a, b, c, d, hab, hb, hcd, hd, rfl, rfl⟩ | ⟨bx, by'⟩
  · refine iv_xtwo hab hb hcd hd ?_
    refine xe_ext (ow_w nm) ok 5 (by omega) 1 (Or.inl rfl) rfl zi_1 hab hb hcd hd ?_
    intro M fw fb un lo hi f0 f1 re li le ri bo tp hM
    dsimp only
    refine xf_fa (ow_w nm) ok hab hb hcd hd ?_
    intro r fw fb un lo hi f0 f1 re li le ri bo tp hr
    dsimp only
    refine iv_take hab hb hcd hd (br_f xb_10 ?_)
    refine ye_ext (ow_w nm) ok (b_of_gd hab hb hcd hd) 1 (Or.inl rfl) zi_1 ?_
    intro N hN
    have e : M = N := s_max_u hM hN
    subst e
    rw [Int.one_mul]
    refine ya_above (ow_w nm) ok (b_of_gd hab hb hcd hd) ?_
    intro r' hr'
    exact ⟨s_fa_u hr' hr, rfl, ok⟩
  · exact bx _ _ (by' _ _ _ _ _ _ (br_t rfl ⟨rfl, rfl, ok⟩))
theorem i_vc_safe {k : Nat} {u : SX} {v : SY} (I : i_Rel k u v) (hk : k + 4 ≤ 2048) (v1 : Int32) (v2 : Int32) (v3 : Int32) : wpX_safe (fun r u' => wpY_safe (fun r' v' => r' = r ∧ i_Rel (k + 4) u' v') v v1 v2 v3) u v1 v2 v3 := by
  refine ow_el (P := fun u v => wpX_safe (fun r u' => wpY_safe (fun r' v' => r' = r ∧ i_Rel (k + 4) u' v') v v1 v2 v3) u v1 v2 v3) I ?_
  intro fw fb nm un lo hi f0 f1 re li le ri bo tp w0 w1 w2 w3 ok
  unfold wpX_safe wpY_safe
  dsimp only
  rcases iv_two v1 v2 with ⟨a, b, c, d, hab, hb, hcd, hd, rfl, rfl⟩ | ⟨bx, by'⟩
  · have gB := b_of_gd hab hb hcd hd
    refine iv_xtwo hab hb hcd hd ?_
    refine xf_fa (ow_w nm) ok hab hb hcd hd ?_
    intro r fw fb un lo hi f0 f1 re li le ri bo tp hr
    dsimp only
    rcases s_fa_n gB hr with ⟨e1, e2, _⟩ | ⟨e1, e2, _⟩
    · refine br_t e1 (iv_take hab hb hcd hd (br_f xb_10 ?_))
      refine ya_above (ow_w nm) ok gB ?_
      intro r' hr'
      rw [s_fa_u hr' hr]
      exact br_f (Int32.not_le.mpr e2) ⟨rfl, rfl, ok⟩
    · refine br_f e1 (iv_take hab hb hcd hd (br_f xb_10 ?_))
      refine ya_above (ow_w nm) ok gB ?_
      intro r' hr'
      rw [s_fa_u hr' hr]
      exact br_t (Int32.not_lt.mp e2) ⟨rfl, rfl, ok⟩
  · exact bx _ _ (by' _ _ _ _ _ _ (br_t rfl ⟨rfl, rfl, ok⟩))
theorem i_vc_breach {k : Nat} {u : SX} {v : SY} (I : i_Rel k u v) (hk : k + 4 ≤ 2048) (v1 : Int32) (v2 : Int32) (v3 : Int32) : wpX_breach (fun r u' => wpY_breach (fun r' v' => r' = r ∧ i_Rel (k + 4) u' v') v v1 v2 v3) u v1 v2 v3 := by
  refine ow_el (P := fun u v => wpX_breach (fun r u' => wpY_breach (fun r' v' => r' = r ∧ i_Rel (k + 4) u' v') v v1 v2 v3) u v1 v2 v3) I ?_
  intro fw fb nm un lo hi f0 f1 re li le ri bo tp w0 w1 w2 w3 ok
  unfold wpX_breach wpY_breach
  dsimp only
  rcases iv_two v1 v2 with ⟨a, b, c, d, hab, hb, hcd, hd, rfl, rfl⟩ | ⟨bx, by'⟩
  · refine iv_xtwo hab hb hcd hd ?_
    refine xf_fa (ow_w nm) ok hab hb hcd hd ?_
    intro r fw fb un lo hi f0 f1 re li le ri bo tp hr
    dsimp only
    refine iv_take hab hb hcd hd (br_f xb_10 ?_)
    refine ya_above (ow_w nm) ok (b_of_gd hab hb hcd hd) ?_
    intro r' hr'
    exact ⟨s_fa_u hr' hr, rfl, ok⟩
  · exact bx _ _ (by' _ _ _ _ _ _ (br_t rfl ⟨rfl, rfl, ok⟩))
theorem i_vc_fixed {k : Nat} {u : SX} {v : SY} (I : i_Rel k u v) (hk : k + 4 ≤ 2048) (v1 : Int32) (v2 : Int32) (v3 : Int32) : wpX_fixed (fun r u' => wpY_fixed (fun r' v' => r' = r ∧ i_Rel (k + 4) u' v') v v1 v2 v3) u v1 v2 v3 := by
  refine ow_el (P := fun u v => wpX_fixed (fun r u' => wpY_fixed (fun r' v' => r' = r ∧ i_Rel (k + 4) u' v') v v1 v2 v3) u v1 v2 v3) I ?_
  intro fw fb nm un lo hi f0 f1 re li le ri bo tp w0 w1 w2 w3 ok
  unfold wpX_fixed wpY_fixed
  dsimp only
  by_cases h0 : v1 < 0
  · exact br_t h0 (br_t h0 ⟨rfl, rfl, ok⟩)
  · by_cases h1 : v1 ≤ 4
    · obtain ⟨t, ht, rfl⟩ := nI_of2 (n := 4) (by decide) h0 h1
      refine br_f h0 (br_t h1 ?_)
      rcases iv_two v2 v3 with ⟨a, b, c, d, hab, hb, hcd, hd, rfl, rfl⟩ | ⟨bx, by'⟩
      · have gB := b_of_gd hab hb hcd hd
        have gQ : q_gb ((a : Int) - 16) ((b : Int) - 16) ((c : Int) - 16) ((d : Int) - 16) := gB
        have hll := b_of_ll hab hcd
        have hbd : ∀ {sg M : Int}, (sg = 1 ∨ sg = -1) → s_max (fun x y => sg * q_sm (fun j => (nm j).toInt) t x y) (b_of a b c d) M → -32050 ≤ M ∧ M ≤ 32050 := by
          intro sg M hsg hM
          obtain ⟨⟨x, y, hi, e⟩, _⟩ := hM
          have r := b_in_r gB hi
          rw [← e]
          exact sg_b hsg (q_sm_b ok t r.1 r.2)
        refine iv_xtwo hab hb hcd hd ?_
        refine xe_ext (ow_w nm) ok t (by omega) 1 (Or.inl rfl) rfl zi_1 hab hb hcd hd ?_
        intro M fw fb un lo hi f0 f1 re li le ri bo tp hM
        have hMb := hbd (Or.inl rfl) hM
        dsimp only
        refine zi_iff (zi_0lt (by omega) (by omega)) (fun z => ?_) (fun z => ?_)
        · refine xe_ext (ow_w nm) ok t (by omega) (-1) (Or.inr rfl) rfl zi_m1 hab hb hcd hd ?_
          intro N fw fb un lo hi f0 f1 re li le ri bo tp hN
          have hNb := hbd (Or.inr rfl) hN
          obtain ⟨⟨xm, ym, him, em⟩, hm⟩ := hM
          obtain ⟨⟨xn, yn, hin, en⟩, hn⟩ := hN
          dsimp only at em hm en hn
          dsimp only
          refine nm_r (zi_neg N) ?_
          refine zi_iff (zi_le0 (by omega) (by omega)) (fun y => ?_) (fun y => ?_)
          · refine br_f h0 (br_t h1 (iv_take hab hb hcd hd (br_f xb_10 ⟨_, yf_out (ow_w nm) ok gQ (t := t) (by omega) ?_ ?_ ?_ (b + 1 - a) _ 0 0 (by omega) (by omega) ?_⟩)))
            · intro hall
              have := hall xm ym him
              omega
            · intro hall
              have := hall xn yn hin
              omega
            · exact fun _ _ => ⟨rfl, rfl, ok⟩
            · exact ⟨Or.inl ⟨rfl, fun x' y' h => (y_bf_0 h).elim⟩, Or.inl ⟨rfl, fun x' y' h => (y_bf_0 h).elim⟩⟩
          · refine br_f h0 (br_t h1 (iv_take hab hb hcd hd (br_f xb_10 ⟨_, yf_out (ow_w nm) ok gQ (t := t) (by omega) ?_ ?_ ?_ (b + 1 - a) _ 0 0 (by omega) (by omega) ?_⟩)))
            · intro hall
              have := hall xm ym him
              omega
            · exact fun _ => ⟨rfl, rfl, ok⟩
            · rintro _ ⟨x', y', hi', hv'⟩
              have := hn x' y' hi'
              omega
            · exact ⟨Or.inl ⟨rfl, fun x' y' h => (y_bf_0 h).elim⟩, Or.inl ⟨rfl, fun x' y' h => (y_bf_0 h).elim⟩⟩
        · obtain ⟨_, hm⟩ := hM
          dsimp only at hm
          refine br_f h0 (br_t h1 (iv_take hab hb hcd hd (br_f xb_10 ⟨_, yf_out (ow_w nm) ok gQ (t := t) (by omega) ?_ ?_ ?_ (b + 1 - a) _ 0 0 (by omega) (by omega) ?_⟩)))
          · exact fun _ => ⟨rfl, rfl, ok⟩
          · intro hall
            have h2 := hall _ _ hll
            have h3 := hm _ _ hll
            omega
          · rintro ⟨x', y', hi', hv'⟩ _
            have := hm x' y' hi'
            omega
          · exact ⟨Or.inl ⟨rfl, fun x' y' h => (y_bf_0 h).elim⟩, Or.inl ⟨rfl, fun x' y' h => (y_bf_0 h).elim⟩⟩
      · exact bx _ _ (br_f h0 (br_t h1 (by' _ _ _ _ _ _ (br_t rfl ⟨rfl, rfl, ok⟩))))
    · exact br_f h0 (br_f h1 (br_f h0 (br_f h1 ⟨rfl, rfl, ok⟩)))
theorem i_vc_radius {k : Nat} {u : SX} {v : SY} (I : i_Rel k u v) (hk : k + 4 ≤ 2048) (v1 : Int32) (v2 : Int32) (v3 : Int32) : wpX_radius (fun r u' => wpY_radius (fun r' v' => r' = r ∧ i_Rel (k + 4) u' v') v v1 v2 v3) u v1 v2 v3 := by
  refine ow_el (P := fun u v => wpX_radius (fun r u' => wpY_radius (fun r' v' => r' = r ∧ i_Rel (k + 4) u' v') v v1 v2 v3) u v1 v2 v3) I ?_
  intro fw fb nm un lo hi f0 f1 re li le ri bo tp w0 w1 w2 w3 ok
  rcases in_two v1 v2 with ⟨x, y, hx, hy, rfl, rfl⟩ | ⟨bx, by'⟩
  · refine xa_radius (ow_w nm) ok hx hy ?_ ?_
    · intro hP u' hu
      refine yr_radius (ow_w nm) ok hx hy ?_ ?_
      · intro _ v' hv
        refine ⟨rfl, hu.trans hv.symm, ?_⟩
        rw [hu]
        exact ok
      · intro g v' hS hv
        exact absurd (r_mono hP (by omega)) hS.2.1
    · intro g u' hS hu
      refine yr_radius (ow_w nm) ok hx hy ?_ ?_
      · intro hP
        exact absurd (r_mono hP (by omega)) hS.2.1
      · intro g' v' hS' hv
        refine ⟨congrArg nI (r_S_u hS' hS), hu.trans hv.symm, ?_⟩
        rw [hu]
        exact ok
  · unfold wpX_radius wpY_radius
    dsimp only
    exact bx _ _ (by' _ _ _ ⟨rfl, rfl, ok⟩)
theorem i_vc_patterns {k : Nat} {u : SX} {v : SY} (I : i_Rel k u v) (hk : k + 4 ≤ 2048) (v1 : Int32) (v2 : Int32) : wpX_patterns (fun r u' => wpY_patterns (fun r' v' => r' = r ∧ i_Rel (k + 4) u' v') v v1 v2) u v1 v2 := by
  refine ow_el (P := fun u v => wpX_patterns (fun r u' => wpY_patterns (fun r' v' => r' = r ∧ i_Rel (k + 4) u' v') v v1 v2) u v1 v2) I ?_
  intro fw fb nm un lo hi f0 f1 re li le ri bo tp w0 w1 w2 w3 ok
  rcases iv_two v1 v2 with ⟨a, b, c, d, hab, hb, hcd, hd, rfl, rfl⟩ | ⟨bx, by'⟩
  · have gB := b_of_gd hab hb hcd hd
    have gQ : q_gb ((a : Int) - 16) ((b : Int) - 16) ((c : Int) - 16) ((d : Int) - 16) := gB
    refine xp_patterns (ow_w nm) ok hab hb hcd hd ?_
    intro s u' hs hu
    unfold wpY_patterns
    dsimp only
    refine iv_take hab hb hcd hd (br_f xb_10 ⟨_, yp_out (ow_w nm) ok gQ ?_ (b + 1 - a) _ 0 (by omega) (by omega) ?_⟩)
    · intro s' hs'
      refine ⟨?_, hu, ?_⟩
      · rw [s_pt_u hs' hs]
      · rw [hu]
        exact ok
    · refine ⟨fun p _ h => ?_, fun x' y' h => (y_bf_0 h).elim⟩
      rw [b_0] at h
      exact absurd h (by decide)
  · unfold wpX_patterns wpY_patterns
    dsimp only
    exact bx _ _ (by' _ _ _ _ _ _ (br_t rfl ⟨rfl, rfl, ok⟩))
end
