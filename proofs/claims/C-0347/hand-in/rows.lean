section
/-! STARTING TEXT: rows of kit/rows (PURE-ROWS, BITS), pasted -/
theorem pk_us {f : Nat → Int32} {k : Nat} {x : Int32} : upd f k x k = x := if_pos rfl
theorem pk_un {f : Nat → Int32} {k j : Nat} {x : Int32} (h : j ≠ k) : upd f k x j = f j := if_neg h
theorem pk_uLs {f : Nat → Int64} {k : Nat} {x : Int64} : vp_updL f k x k = x := if_pos rfl
theorem pk_uLn {f : Nat → Int64} {k j : Nat} {x : Int64} (h : j ≠ k) : vp_updL f k x j = f j := if_neg h
theorem pk_sub {a b : Nat} (h : b ≤ a) : nI a - nI b = nI (a - b) := by
  obtain ⟨c, rfl⟩ : ∃ c, a = c + b := ⟨a - b, by omega⟩
  rw [← nI_add, Int32.add_sub_cancel, Nat.add_sub_cancel]
theorem pk_m1 (n : Nat) : nI (n + 1) + (-1) = nI n := by
  rw [← nI_1, Int32.add_assoc, show (1 : Int32) + (-1) = 0 from rfl, Int32.add_zero]
theorem pk_mul (a b : Nat) : nI a * nI b = nI (a * b) := (Int32.ofNat_mul a b).symm
theorem pk_div {a d : Nat} (ha : a < 2 ^ 31) (h0 : 0 < d) (hd : d < 2 ^ 31) : nI a / nI d = nI (a / d) := by
  apply Int32.toInt_inj.mp
  rw [lg_idiv_nonneg (by rw [nI_toInt ha]; omega) (by rw [nI_toInt hd]; omega), nI_toInt ha, nI_toInt hd, nI_toInt (Nat.lt_of_le_of_lt (Nat.div_le_self a d) ha)]
  first | rfl | exact (Int.natCast_ediv _ _).symm
theorem pk_rem {a d : Nat} (ha : a < 2 ^ 31) (h0 : 0 < d) (hd : d < 2 ^ 31) : nI a - nI a / nI d * nI d = nI (a % d) := by
  rw [pk_div ha h0 hd, pk_mul, pk_sub (Nat.div_mul_le_self a d)]
  exact congrArg nI (by have := Nat.div_add_mod' a d; omega)
theorem pk_le {x y : Int32} {A B : Prop} (a b : Nat) (f : a ≤ b → A) (g : b < a → B) (hx : x = nI a := by rfl) (hy : y = nI b := by rfl) (ha : a < 2 ^ 31 := by omega) (hb : b < 2 ^ 31 := by omega) : (x ≤ y → A) ∧ (¬ x ≤ y → B) := by
  subst hx hy
  rw [nI_leI ha hb]
  exact ⟨f, fun z => g (by omega)⟩
theorem pk_lt {x y : Int32} {A B : Prop} (a b : Nat) (f : a < b → A) (g : b ≤ a → B) (hx : x = nI a := by rfl) (hy : y = nI b := by rfl) (ha : a < 2 ^ 31 := by omega) (hb : b < 2 ^ 31 := by omega) : (x < y → A) ∧ (¬ x < y → B) := by
  subst hx hy
  rw [nI_ltI ha hb]
  exact ⟨f, fun z => g (by omega)⟩
theorem pk_eq {x y : Int32} {A B : Prop} (a b : Nat) (f : a = b → A) (g : a ≠ b → B) (hx : x = nI a := by rfl) (hy : y = nI b := by rfl) (ha : a < 2 ^ 31 := by omega) (hb : b < 2 ^ 31 := by omega) : (x = y → A) ∧ (¬ x = y → B) := by
  subst hx hy
  rw [nI_eq ha hb]
  exact ⟨f, g⟩
theorem pk_in {x : Int32} (n N : Nat) (h : n < N) (hx : x = nI n := by rfl) (hN : N < 2 ^ 31 := by omega) : vp_in x N := by
  subst hx
  exact vp_in_nI h hN
theorem pk_cl {x : Int32} (n : Nat) (hx : x = nI n := by rfl) (h : n < 2 ^ 31 := by omega) : x.toNatClampNeg = n := by
  subst hx
  exact nI_clamp h
theorem pk_tn {n : Nat} (h : n < 2 ^ 32) : (nI n).toBitVec.toNat = n := Nat.mod_eq_of_lt h
theorem pk_and (x : Int32) {m : Int32} (k : Nat) (hm : m.toBitVec.toNat = 2 ^ k - 1) : x &&& m = nI (x.toBitVec.toNat % 2 ^ k) := by
  apply Int32.toBitVec_inj.mp
  apply BitVec.eq_of_toNat_eq
  rw [Int32.toBitVec_and, BitVec.toNat_and, hm, Nat.and_two_pow_sub_one_eq_mod]
  show _ = (BitVec.ofNat 32 _).toNat
  rw [BitVec.toNat_ofNat]
  exact (Nat.mod_eq_of_lt (Nat.lt_of_le_of_lt (Nat.mod_le _ _) x.toBitVec.isLt)).symm
theorem pk_andN {n : Nat} (h : n < 2 ^ 32) {m : Int32} (k : Nat) (hm : m.toBitVec.toNat = 2 ^ k - 1) : nI n &&& m = nI (n % 2 ^ k) := by
  rw [pk_and _ k hm, pk_tn h]
theorem pk_shl (a s : Int32) (k : Nat) (hs : (s.toBitVec.smod 32).toNat = k) : (a <<< s).toBitVec.toNat = a.toBitVec.toNat * 2 ^ k % 2 ^ 32 := by
  show (a.toBitVec <<< (s.toBitVec.smod 32).toNat).toNat = _
  rw [hs, BitVec.toNat_shiftLeft, Nat.shiftLeft_eq]
theorem pk_shlN {n : Nat} (s : Int32) (k : Nat) (hs : (s.toBitVec.smod 32).toNat = k) (h : n * 2 ^ k < 2 ^ 32) : nI n <<< s = nI (n * 2 ^ k) := by
  apply Int32.toBitVec_inj.mp
  apply BitVec.eq_of_toNat_eq
  have hn : n < 2 ^ 32 := Nat.lt_of_le_of_lt (Nat.le_mul_of_pos_right n (Nat.two_pow_pos k)) h
  rw [pk_shl _ _ k hs, pk_tn hn, pk_tn h, Nat.mod_eq_of_lt h]
theorem pk_shr (a s : Int32) (k : Nat) (hs : (s.toBitVec.smod 32).toNat = k) : (a >>> s).toInt = a.toInt >>> k := by
  show (a.toBitVec.sshiftRight (s.toBitVec.smod 32).toNat).toInt = _
  rw [hs, BitVec.toInt_sshiftRight]
  rfl
theorem pk_shrN {n : Nat} (h : n < 2 ^ 31) (s : Int32) (k : Nat) (hs : (s.toBitVec.smod 32).toNat = k) : nI n >>> s = nI (n / 2 ^ k) := by
  apply Int32.toInt_inj.mp
  have h2 : n / 2 ^ k ≤ n := Nat.div_le_self _ _
  rw [pk_shr _ _ k hs, nI_toInt h, nI_toInt (by omega), Int.shiftRight_eq_div_pow]
  rfl
theorem pk_ns (z : Int32) : narrow .short (.int z.toInt16.toInt32) = .int z.toInt16.toInt32 := congrArg Value.int (by simp)
theorem pk_vs (z : Int32) : vp_nar .short z.toInt16.toInt32 = z.toInt16.toInt32 := by rw [vp_nar_short]; simp
theorem s_l : ∀ n, n < 32 → ((nI n &&& 31).toBitVec.smod 32).toNat = n := by decide +kernel
theorem nx_and (a b : Nat) : nI a &&& nI b = nI (a &&& b) := by
  apply Int32.toBitVec_inj.1
  show BitVec.ofNat 32 a &&& BitVec.ofNat 32 b = BitVec.ofNat 32 (a &&& b)
  apply BitVec.eq_of_getLsbD_eq
  intro i hi
  simp [hi]
theorem nx_xor (a b : Nat) : nI a ^^^ nI b = nI (a ^^^ b) := by
  apply Int32.toBitVec_inj.1
  show BitVec.ofNat 32 a ^^^ BitVec.ofNat 32 b = BitVec.ofNat 32 (a ^^^ b)
  apply BitVec.eq_of_getLsbD_eq
  intro i hi
  simp [hi]
theorem ts_bit {w : Int64} {s : UInt64} {j : Nat} (hj : j < 64) (hs : s.toNat = j) : ((w.toUInt64 >>> s).toInt64 &&& 1) = 0 ↔ w.toBitVec.getLsbD j = false := by
  have e : (w.toUInt64 >>> s).toInt64.toBitVec = w.toBitVec >>> j := by
    apply BitVec.eq_of_toNat_eq
    show (w.toUInt64 >>> s).toNat = _
    rw [UInt64.toNat_shiftRight, hs, Nat.mod_eq_of_lt hj, BitVec.toNat_ushiftRight]
    rfl
  rw [← Int64.toBitVec_inj, Int64.toBitVec_and, e]
  show w.toBitVec >>> j &&& 1#64 = 0#64 ↔ _
  constructor
  · intro h
    have t := congrArg (fun x => x.getLsbD 0) h
    simpa using t
  · intro h
    apply BitVec.eq_of_getLsbD_eq
    intro i hi
    cases i with
    | zero => simp [h]
    | succ i => simp
theorem wb_tb (n : Nat) : (lN n).toBitVec = BitVec.ofNat 64 n := rfl
theorem wb_inj {a b : Int64} (h : a.toBitVec = b.toBitVec) : a = b := Int64.toBitVec_inj.mp h
theorem wb_of32 (x : Int32) : ∃ n, n < 2 ^ 32 ∧ x = nI n := ⟨x.toBitVec.toNat, x.toBitVec.isLt, Int32.toBitVec_inj.mp (by show _ = BitVec.ofNat 32 _; simp)⟩
theorem wb_c : ∀ k, k < 64 → ((nI k).toInt64 &&& 63) = lN k := by decide +kernel
theorem wb_cu : ∀ k, k < 64 → ((nI k).toInt64.toUInt64 &&& Int64.toUInt64 63) = UInt64.ofNat k := by decide +kernel
theorem wb_sm : ∀ k, k < 64 → (BitVec.ofNat 64 k).smod 64 = BitVec.ofNat 64 k := by decide +kernel
end
section
/-! small sets as naturals below 256: bits, difference; words of 64 sets -/
def ad_bI (b : Bool) : Int32 := match b with
  | true => 1
  | false => 0
theorem ad_bI0 {b : Bool} : ad_bI b = 0 ↔ b = false := by cases b <;> decide
theorem ad_bI1 {b : Bool} : ad_bI b = 1 ↔ b = true := by cases b <;> decide
theorem ad_bIn (b : Bool) : vp_nar .boolean (ad_bI b) = ad_bI b := by cases b <;> decide
theorem ad_bIN (b : Bool) : narrow .boolean (.int (ad_bI b)) = .int (ad_bI b) := by cases b <;> decide
theorem ad_or (a b : Nat) : nI a ||| nI b = nI (a ||| b) := by
  apply Int32.toBitVec_inj.1
  show BitVec.ofNat 32 a ||| BitVec.ofNat 32 b = BitVec.ofNat 32 (a ||| b)
  apply BitVec.eq_of_getLsbD_eq
  intro i hi
  simp [hi]
def ad_df (a b : Nat) : Nat := a &&& (b ^^^ 4294967295)
theorem ad_m1 : (-1 : Int32) = nI 4294967295 := by decide +kernel
theorem ad_dfI (a b : Nat) : nI a &&& (nI b ^^^ (-1)) = nI (ad_df a b) := by
  rw [ad_m1, nx_xor, nx_and]; rfl
theorem ad_df_bit {a b i : Nat} (hi : i < 32) : (ad_df a b).testBit i = (a.testBit i && !b.testBit i) := by
  unfold ad_df
  rw [Nat.testBit_and, Nat.testBit_xor, show (4294967295 : Nat) = 2 ^ 32 - 1 from rfl, Nat.testBit_two_pow_sub_one, decide_eq_true hi, Bool.xor_true]
theorem ad_df_lt {a : Nat} (b : Nat) (h : a < 256) : ad_df a b < 256 := Nat.lt_of_le_of_lt Nat.and_le_left h
theorem ad_hi {a i : Nat} (h : a < 256) (hi : 8 ≤ i) : a.testBit i = false := by
  apply Nat.testBit_lt_two_pow
  have h2 : 2 ^ 8 ≤ 2 ^ i := Nat.pow_le_pow_right (by decide) hi
  omega
theorem ad_ext {a b : Nat} (ha : a < 256) (hb : b < 256) (h : ∀ i, i < 8 → a.testBit i = b.testBit i) : a = b := by
  apply Nat.eq_of_testBit_eq
  intro i
  rcases Nat.lt_or_ge i 8 with z | z
  · exact h i z
  · rw [ad_hi ha z, ad_hi hb z]
theorem ad_bs {a i : Nat} (ha : a < 256) (h : a.testBit i = true) : i < 8 := by
  rcases Nat.lt_or_ge i 8 with z | z
  · exact z
  · rw [ad_hi ha z] at h; exact absurd h (by decide)
theorem ad_zero {a : Nat} (ha : a < 256) : a = 0 ↔ ∀ i, i < 8 → a.testBit i = false := by
  constructor
  · intro h i _; rw [h]; exact Nat.zero_testBit i
  · intro h; exact ad_ext ha (by decide) (fun i hi => by rw [h i hi, Nat.zero_testBit])
theorem ad_nz {a : Nat} (ha : a < 256) (h : a ≠ 0) : ∃ i, i < 8 ∧ a.testBit i = true := by
  apply Classical.byContradiction
  intro n
  apply h
  rw [ad_zero ha]
  intro i hi
  cases hb : a.testBit i
  · rfl
  · exact absurd ⟨i, hi, hb⟩ n
theorem ad_sub {a b : Nat} (ha : a < 256) : ad_df a b = 0 ↔ ∀ i, i < 8 → a.testBit i = true → b.testBit i = true := by
  rw [ad_zero (ad_df_lt b ha)]
  constructor
  · intro h i hi hb
    have e := h i hi
    rw [ad_df_bit (by omega), hb] at e
    revert e; cases b.testBit i <;> decide
  · intro h i hi
    rw [ad_df_bit (by omega)]
    cases hb : a.testBit i
    · rfl
    · rw [h i hi hb]; rfl
theorem ad_disj {a b : Nat} (ha : a < 256) : a &&& b = 0 ↔ ∀ i, i < 8 → a.testBit i = true → b.testBit i = false := by
  rw [ad_zero (Nat.lt_of_le_of_lt Nat.and_le_left ha)]
  constructor
  · intro h i hi hb
    have e := h i hi
    rw [Nat.testBit_and, hb] at e
    exact e
  · intro h i hi
    rw [Nat.testBit_and]
    cases hb : a.testBit i
    · rfl
    · rw [h i hi hb]; rfl
theorem ad_or_lt {a b : Nat} (ha : a < 256) (hb : b < 256) : a ||| b < 256 := Nat.or_lt_two_pow (n := 8) ha hb
theorem ad_and_lt {a : Nat} (b : Nat) (ha : a < 256) : a &&& b < 256 := Nat.lt_of_le_of_lt Nat.and_le_left ha
theorem ad_and_lt' (a : Nat) {b : Nat} (hb : b < 256) : a &&& b < 256 := Nat.lt_of_le_of_lt Nat.and_le_right hb
theorem ad_xor_lt {a b : Nat} (ha : a < 256) (hb : b < 256) : a ^^^ b < 256 := Nat.xor_lt_two_pow (n := 8) ha hb
theorem ad_pw_lt {a : Nat} (h : a < 8) : 2 ^ a < 256 := Nat.pow_lt_pow_right (a := 2) (n := 8) (by decide) h
theorem ad_shr {n a : Nat} (hn : n < 2 ^ 31) (ha : a < 31) : nI n >>> (nI a &&& 31) = nI (n / 2 ^ a) := pk_shrN hn _ a (s_l a (by omega))
theorem ad_bit {s a : Nat} (hs : s < 2 ^ 31) (ha : a < 31) : (nI s >>> (nI a &&& 31)) &&& 1 = ad_bI (s.testBit a) := by
  rw [ad_shr hs ha]
  show nI (s / 2 ^ a) &&& nI 1 = _
  rw [nx_and, Nat.and_one_is_mod, Nat.testBit_eq_decide_div_mod_eq]
  generalize s / 2 ^ a = z
  rcases (by omega : z % 2 = 0 ∨ z % 2 = 1) with h | h <;> rw [h] <;> decide
theorem ad_pw {a : Nat} (ha : a < 31) : (1 : Int32) <<< (nI a &&& 31) = nI (2 ^ a) := by
  have h : 1 * 2 ^ a < 2 ^ 32 := by
    rw [Nat.one_mul]; exact Nat.pow_lt_pow_right (by decide) (by omega)
  have e := pk_shlN (n := 1) (nI a &&& 31) a (s_l a (by omega)) h
  rw [Nat.one_mul] at e
  exact e
theorem ad_sh0 : ∀ n, n < 256 → (nI n).toInt16.toInt32 = nI n := by decide +kernel
theorem ad_sh {n : Nat} (h : n < 256) : vp_nar .short ((nI n).toInt16.toInt32) = nI n := by rw [pk_vs, ad_sh0 n h]
theorem ad_sh00 : vp_nar .short 0 = 0 := by rw [vp_nar_short]; decide
/-! branches on a bit -/
theorem ad_xIn {post : Int32 → Prop} {u : SX} {x y : Int32} {s a : Nat} (hx : x = nI s) (hy : y = nI a) (hs : s < 256) (ha : a < 31) (h : post (ad_bI (s.testBit a))) : wpX_isIn post u x y := by
  subst hx hy
  obtain ⟨u1, u2, u3, u4, u5, u6, u7, u8, u9, u10, u11, u12⟩ := u
  show ((((nI s >>> (nI a &&& 31)) &&& 1) = 0 → post 0) ∧ (¬ ((nI s >>> (nI a &&& 31)) &&& 1) = 0 → post 1))
  rw [ad_bit (by omega) ha]
  cases hb : s.testBit a <;> rw [hb] at h
  · exact br_t rfl h
  · exact br_f (by decide) h
theorem ad_xb {A B : Prop} {u : SX} {x y : Int32} {s a : Nat} (hx : x = nI s) (hy : y = nI a) (hs : s < 256) (ha : a < 31) (h0 : s.testBit a = false → A) (h1 : s.testBit a = true → B) : wpX_isIn (fun r => (r = 0 → A) ∧ (¬ r = 0 → B)) u x y := by
  refine ad_xIn hx hy hs ha ?_
  cases hb : s.testBit a
  · exact br_t rfl (h0 hb)
  · exact br_f (by decide) (h1 hb)
theorem ad_yb {A B : Prop} {x y : Int32} {s a : Nat} (hx : x = nI s) (hy : y = nI a) (hs : s < 256) (ha : a < 31) (h1 : s.testBit a = true → A) (h0 : s.testBit a = false → B) : (((x >>> (y &&& 31)) &&& 1) = 1 → A) ∧ (¬ ((x >>> (y &&& 31)) &&& 1) = 1 → B) := by
  subst hx hy
  rw [ad_bit (by omega) ha]
  cases hb : s.testBit a
  · exact br_f (by decide) (h0 hb)
  · exact br_t rfl (h1 hb)
theorem ad_e0 {A B : Prop} {x : Int32} {s : Nat} (hx : x = nI s) (hs : s < 256) (h0 : s = 0 → A) (h1 : s ≠ 0 → B) : (x = 0 → A) ∧ (¬ x = 0 → B) := pk_eq s 0 h0 h1 hx rfl (by omega) (by omega)
theorem ad_bb {A B : Prop} {x : Int32} {b : Bool} (hx : x = ad_bI b) (h0 : b = false → A) (h1 : b = true → B) : (x = 0 → A) ∧ (¬ x = 0 → B) := by
  subst hx
  cases b
  · exact br_t rfl (h0 rfl)
  · exact br_f (by decide) (h1 rfl)
theorem ad_l8 {i : Nat} (h : i < 8) : ¬ (8 : Int32) ≤ nI i := nI_ge (b := 8) h (by decide)
theorem ad_g8 : (8 : Int32) ≤ nI 8 := by decide
theorem ad_l4 {i : Nat} (h : i < 4) : ¬ (4 : Int32) ≤ nI i := nI_ge (b := 4) h (by decide)
theorem ad_g4 : (4 : Int32) ≤ nI 4 := by decide
theorem ad_l256 {i : Nat} (h : i < 256) : ¬ (256 : Int32) ≤ nI i := nI_ge (b := 256) h (by decide)
theorem ad_g256 : (256 : Int32) ≤ nI 256 := by decide
theorem ad_l64 {i : Nat} (h : i < 64) : ¬ (64 : Int32) ≤ nI i := nI_ge (b := 64) h (by decide)
theorem ad_g64 : (64 : Int32) ≤ nI 64 := by decide
theorem ad_in {i N : Nat} (h : i < N) (hN : N < 4096) : vp_in (nI i) N := vp_in_nI h (by omega)
theorem ad_c {i : Nat} (h : i < 4096) : (nI i).toNatClampNeg = i := nI_clamp (by omega)
theorem ad_cA {f : Nat → Int32} {g : Nat → Nat} {n : Nat} (h : ∀ j, j < n → f j = nI (g j)) {i : Nat} (hi : i < n) (hn : n < 4096) : f (nI i).toNatClampNeg = nI (g i) := by rw [ad_c (by omega)]; exact h i hi
/-! the indices' arithmetic -/
theorem ad_i4 (k w : Nat) : 4 * nI k + nI w = nI (4 * k + w) := by
  show nI 4 * nI k + nI w = _
  rw [pk_mul, nI_add]
theorem ad_i256 (k s : Nat) : 256 * nI k + nI s = nI (256 * k + s) := by
  show nI 256 * nI k + nI s = _
  rw [pk_mul, nI_add]
theorem ad_4m (k : Nat) : 4 * nI k = nI (4 * k) := pk_mul 4 k
theorem ad_s6 {s : Nat} (h : s < 256) : nI s >>> ((6 : Int32) &&& 31) = nI (s / 64) := pk_shrN (by omega) _ 6 (by decide)
/-! words -/
def ad_w (x : Int64) (j : Nat) : Bool := x.toBitVec.getLsbD j
theorem ad_w_or (x y : Int64) (j : Nat) : ad_w (x ||| y) j = (ad_w x j || ad_w y j) := by unfold ad_w; rw [Int64.toBitVec_or, BitVec.getLsbD_or]
theorem ad_w_and (x y : Int64) (j : Nat) : ad_w (x &&& y) j = (ad_w x j && ad_w y j) := by unfold ad_w; rw [Int64.toBitVec_and, BitVec.getLsbD_and]
theorem ad_w_m1 {j : Nat} (hj : j < 64) : ad_w (-1) j = true := by
  have e : (-1 : Int64).toBitVec = BitVec.allOnes 64 := by decide
  unfold ad_w; rw [e, BitVec.getLsbD_allOnes, decide_eq_true hj]
theorem ad_w_xor (x y : Int64) (j : Nat) : ad_w (x ^^^ y) j = (ad_w x j ^^ ad_w y j) := by unfold ad_w; rw [Int64.toBitVec_xor, BitVec.getLsbD_xor]
theorem ad_w_not (x : Int64) {j : Nat} (hj : j < 64) : ad_w (x ^^^ (-1)) j = !ad_w x j := by rw [ad_w_xor, ad_w_m1 hj, Bool.xor_true]
theorem ad_w_0 (j : Nat) : ad_w 0 j = false := BitVec.getLsbD_zero
theorem ad_w_ext {x y : Int64} (h : ∀ j, j < 64 → ad_w x j = ad_w y j) : x = y := Int64.toBitVec_inj.mp (BitVec.eq_of_getLsbD_eq (fun i hi => h i hi))
theorem ad_w_nz {x : Int64} (h : x ≠ 0) : ∃ j, j < 64 ∧ ad_w x j = true := by
  apply Classical.byContradiction
  intro n
  apply h
  apply ad_w_ext
  intro j hj
  rw [ad_w_0]
  cases hb : ad_w x j
  · rfl
  · exact absurd ⟨j, hj, hb⟩ n
theorem ad_tp : ∀ k, k < 64 → ((1 : Int64) <<< ((nI k).toInt64 &&& 63)).toBitVec = BitVec.twoPow 64 k := by decide +kernel
theorem ad_a63 {s : Nat} (h : s < 256) : nI s &&& 63 = nI (s % 64) := pk_andN (by omega) 6 (by decide)
theorem ad_w_one {s j : Nat} (hs : s < 256) (_hj : j < 64) : ad_w ((1 : Int64) <<< ((nI s &&& 63).toInt64 &&& 63)) j = decide (s % 64 = j) := by
  unfold ad_w
  rw [ad_a63 hs, ad_tp _ (Nat.mod_lt _ (by decide)), BitVec.getLsbD_twoPow, decide_eq_true (Nat.mod_lt s (show 64 > 0 by decide)), Bool.true_and]
/-- set s of the family at word o -/
def ad_xf (f : Nat → Int64) (o s : Nat) : Bool := ad_w (f (o + s / 64)) (s % 64)
theorem ad_xfw {f : Nat → Int64} {o w j : Nat} (hj : j < 64) : ad_w (f (o + w)) j = ad_xf f o (64 * w + j) := by
  unfold ad_xf
  rw [show (64 * w + j) / 64 = w by omega, show (64 * w + j) % 64 = j by omega]
theorem ad_ush {w : Int64} {s : Nat} (hs : s < 256) : ((w.toUInt64 >>> ((nI s &&& 63).toInt64.toUInt64 &&& Int64.toUInt64 63)).toInt64 &&& 1) = 0 ↔ ad_w w (s % 64) = false := by
  have hm : s % 64 < 64 := Nat.mod_lt _ (by decide)
  rw [ad_a63 hs, wb_cu _ hm]
  refine ts_bit hm ?_
  show (BitVec.ofNat 64 (s % 64)).toNat = _
  rw [BitVec.toNat_ofNat, Nat.mod_eq_of_lt (by omega)]
theorem ad_or1 {f : Nat → Int64} {k k' s t : Nat} (hs : s < 256) (ht : t < 256) : ad_xf (vp_updL f (4 * k + s / 64) (f (4 * k + s / 64) ||| ((1 : Int64) <<< ((nI s &&& 63).toInt64 &&& 63)))) (4 * k') t = (ad_xf f (4 * k') t || (decide (k' = k) && decide (t = s))) := by
  unfold ad_xf
  have hm : t % 64 < 64 := Nat.mod_lt _ (by decide)
  by_cases e : 4 * k' + t / 64 = 4 * k + s / 64
  · rw [e, pk_uLs, ad_w_or, ad_w_one hs hm]
    have hk : k' = k := by omega
    congr 1
    rw [decide_eq_true hk, Bool.true_and]
    by_cases h2 : t = s
    · rw [decide_eq_true h2, decide_eq_true (by rw [h2])]
    · rw [decide_eq_false h2, decide_eq_false (by omega)]
  · rw [pk_uLn e]
    by_cases hk : k' = k
    · rw [decide_eq_false (p := t = s) (by intro h2; subst hk h2; exact e rfl), Bool.and_false, Bool.or_false]
    · rw [decide_eq_false hk, Bool.false_and, Bool.or_false]
end
section
/-! pure sets: bounded any and all, sets from a test, what a set attacks, attackers, what a set defends -/
def ad_an (f : Nat → Bool) : Nat → Bool
  | 0 => false
  | n + 1 => ad_an f n || f n
def ad_al (f : Nat → Bool) : Nat → Bool
  | 0 => true
  | n + 1 => ad_al f n && f n
theorem ad_an_iff {f : Nat → Bool} {n : Nat} : ad_an f n = true ↔ ∃ i, i < n ∧ f i = true := by
  induction n with
  | zero => exact ⟨fun h => absurd (show false = true from h) (by decide), fun ⟨i, hi, _⟩ => absurd hi (Nat.not_lt_zero i)⟩
  | succ n ih =>
    rw [show ad_an f (n + 1) = (ad_an f n || f n) from rfl, Bool.or_eq_true, ih]
    constructor
    · rintro (⟨i, hi, h⟩ | h)
      · exact ⟨i, by omega, h⟩
      · exact ⟨n, by omega, h⟩
    · rintro ⟨i, hi, h⟩
      by_cases e : i = n
      · subst e; exact Or.inr h
      · exact Or.inl ⟨i, by omega, h⟩
theorem ad_al_iff {f : Nat → Bool} {n : Nat} : ad_al f n = true ↔ ∀ i, i < n → f i = true := by
  induction n with
  | zero => exact ⟨fun _ i hi => absurd hi (Nat.not_lt_zero i), fun _ => rfl⟩
  | succ n ih =>
    rw [show ad_al f (n + 1) = (ad_al f n && f n) from rfl, Bool.and_eq_true, ih]
    constructor
    · rintro ⟨h, h2⟩ i hi
      by_cases e : i = n
      · subst e; exact h2
      · exact h i (by omega)
    · intro h
      exact ⟨fun i hi => h i (by omega), h n (by omega)⟩
theorem ad_an_no {f : Nat → Bool} {n : Nat} : ad_an f n = false ↔ ∀ i, i < n → f i = false := by
  constructor
  · intro h i hi
    cases hb : f i
    · rfl
    · rw [ad_an_iff.mpr ⟨i, hi, hb⟩] at h; exact absurd h (by decide)
  · intro h
    cases hb : ad_an f n
    · rfl
    · obtain ⟨i, hi, h2⟩ := ad_an_iff.mp hb
      rw [h i hi] at h2; exact absurd h2 (by decide)
theorem ad_al_no {f : Nat → Bool} {n : Nat} : ad_al f n = false ↔ ∃ i, i < n ∧ f i = false := by
  constructor
  · intro h
    apply Classical.byContradiction
    intro c
    have : ad_al f n = true := ad_al_iff.mpr (fun i hi => by
      cases hb : f i
      · exact absurd ⟨i, hi, hb⟩ c
      · rfl)
    rw [this] at h; exact absurd h (by decide)
  · rintro ⟨i, hi, h⟩
    cases hb : ad_al f n
    · rfl
    · rw [ad_al_iff.mp hb i hi] at h; exact absurd h (by decide)
theorem ad_an_c {f g : Nat → Bool} {n : Nat} (h : ∀ i, i < n → f i = g i) : ad_an f n = ad_an g n := by
  induction n with
  | zero => rfl
  | succ n ih => rw [ad_an, ad_an, ih (fun i hi => h i (by omega)), h n (by omega)]
theorem ad_al_c {f g : Nat → Bool} {n : Nat} (h : ∀ i, i < n → f i = g i) : ad_al f n = ad_al g n := by
  induction n with
  | zero => rfl
  | succ n ih => rw [ad_al, ad_al, ih (fun i hi => h i (by omega)), h n (by omega)]
def ad_mk (f : Nat → Bool) : Nat → Nat
  | 0 => 0
  | n + 1 => ad_mk f n ||| (if f n = true then 2 ^ n else 0)
theorem ad_mk_t {f : Nat → Bool} {n : Nat} (h : f n = true) : ad_mk f (n + 1) = ad_mk f n ||| 2 ^ n := by rw [ad_mk, if_pos h]
theorem ad_mk_f {f : Nat → Bool} {n : Nat} (h : f n = false) : ad_mk f (n + 1) = ad_mk f n := by rw [ad_mk, if_neg (by rw [h]; decide), Nat.or_zero]
theorem ad_mk_bit (f : Nat → Bool) (n i : Nat) : (ad_mk f n).testBit i = (decide (i < n) && f i) := by
  induction n with
  | zero => rw [ad_mk, Nat.zero_testBit, decide_eq_false (by omega), Bool.false_and]
  | succ n ih =>
    cases hb : f n
    · rw [ad_mk_f hb, ih]
      by_cases e : i = n
      · subst e; rw [hb, Bool.and_false, Bool.and_false]
      · congr 1
        exact decide_eq_decide.mpr (by omega)
    · rw [ad_mk_t hb, Nat.testBit_or, ih, Nat.testBit_two_pow]
      by_cases e : i = n
      · subst e; rw [hb, decide_eq_true rfl, decide_eq_true (show i < i + 1 by omega)]; simp
      · rw [decide_eq_false (show ¬ n = i by omega), Bool.or_false]
        congr 1
        exact decide_eq_decide.mpr (by omega)
theorem ad_mk8 (f : Nat → Bool) {i : Nat} (hi : i < 8) : (ad_mk f 8).testBit i = f i := by rw [ad_mk_bit, decide_eq_true hi, Bool.true_and]
theorem ad_mk_lt (f : Nat → Bool) (n : Nat) : ad_mk f n < 2 ^ n := by
  induction n with
  | zero => exact (by decide : 0 < 1)
  | succ n ih =>
    have h : 2 ^ n < 2 ^ (n + 1) := Nat.pow_lt_pow_right (by decide) (by omega)
    cases hb : f n
    · rw [ad_mk_f hb]; omega
    · rw [ad_mk_t hb]; exact Nat.or_lt_two_pow (by omega) h
theorem ad_mk_l8 (f : Nat → Bool) : ad_mk f 8 < 256 := ad_mk_lt f 8
theorem ad_mk_le8 (f : Nat → Bool) {n : Nat} (hn : n ≤ 8) : ad_mk f n < 256 := Nat.lt_of_lt_of_le (ad_mk_lt f n) (Nat.pow_le_pow_right (n := 2) (j := 8) (by decide) hn)
/-! what a set attacks -/
def ad_ht (A : Nat → Nat) (s : Nat) : Nat → Nat
  | 0 => 0
  | n + 1 => if s.testBit n = true then ad_ht A s n ||| A n else ad_ht A s n
theorem ad_ht_t {A : Nat → Nat} {s n : Nat} (h : s.testBit n = true) : ad_ht A s (n + 1) = ad_ht A s n ||| A n := if_pos h
theorem ad_ht_f {A : Nat → Nat} {s n : Nat} (h : s.testBit n = false) : ad_ht A s (n + 1) = ad_ht A s n := if_neg (by rw [h]; decide)
theorem ad_ht_bit (A : Nat → Nat) (s n b : Nat) : (ad_ht A s n).testBit b = ad_an (fun a => s.testBit a && (A a).testBit b) n := by
  induction n with
  | zero => exact Nat.zero_testBit b
  | succ n ih =>
    rw [ad_an]
    cases hb : s.testBit n
    · rw [ad_ht_f hb, ih, Bool.false_and, Bool.or_false]
    · rw [ad_ht_t hb, Nat.testBit_or, ih, Bool.true_and]
theorem ad_ht_lt {A : Nat → Nat} {s n : Nat} (hA : ∀ j, j < 8 → A j < 256) (hn : n ≤ 8) : ad_ht A s n < 256 := by
  induction n with
  | zero => exact (by decide : 0 < 256)
  | succ n ih =>
    cases hb : s.testBit n
    · rw [ad_ht_f hb]; exact ih (by omega)
    · rw [ad_ht_t hb]; exact ad_or_lt (ih (by omega)) (hA n (by omega))
def ad_hit (A : Nat → Nat) (s : Nat) : Nat := ad_ht A s 8
theorem ad_hit_bit (A : Nat → Nat) (s b : Nat) : (ad_hit A s).testBit b = ad_an (fun a => s.testBit a && (A a).testBit b) 8 := ad_ht_bit A s 8 b
theorem ad_hit_iff {A : Nat → Nat} {s b : Nat} : (ad_hit A s).testBit b = true ↔ ∃ a, a < 8 ∧ s.testBit a = true ∧ (A a).testBit b = true := by
  rw [ad_hit_bit, ad_an_iff]
  constructor
  · rintro ⟨a, ha, h⟩
    rw [Bool.and_eq_true] at h
    exact ⟨a, ha, h⟩
  · rintro ⟨a, ha, h⟩
    exact ⟨a, ha, by rw [Bool.and_eq_true]; exact h⟩
theorem ad_hit_lt {A : Nat → Nat} (s : Nat) (hA : ∀ j, j < 8 → A j < 256) : ad_hit A s < 256 := ad_ht_lt hA (Nat.le_refl 8)
/-! attackers -/
def ad_akf (A : Nat → Nat) (a b : Nat) : Bool := (A b).testBit a
def ad_ak (A : Nat → Nat) (a : Nat) : Nat := ad_mk (ad_akf A a) 8
theorem ad_ak_bit (A : Nat → Nat) (a : Nat) {b : Nat} (hb : b < 8) : (ad_ak A a).testBit b = (A b).testBit a := ad_mk8 _ hb
theorem ad_ak_lt (A : Nat → Nat) (a : Nat) : ad_ak A a < 256 := ad_mk_l8 _
/-! what a set defends -/
def ad_hb (s t : Nat) : Bool := ad_an (fun a => s.testBit a && t.testBit a) 8
def ad_dnf (A : Nat → Nat) (a s x : Nat) : Bool := !(ad_ak A a).testBit x || ad_hb (ad_ak A x) s
def ad_dn (A : Nat → Nat) (a s : Nat) : Bool := ad_al (ad_dnf A a s) 8
theorem ad_dn_iff {A : Nat → Nat} {a s : Nat} : ad_dn A a s = true ↔ ∀ x, x < 8 → (A x).testBit a = true → ∃ c, c < 8 ∧ s.testBit c = true ∧ (A c).testBit x = true := by
  unfold ad_dn
  rw [ad_al_iff]
  constructor
  · intro h x hx hb
    have e := h x hx
    unfold ad_dnf ad_hb at e
    rw [ad_ak_bit A a hx, hb, Bool.not_true, Bool.false_or, ad_an_iff] at e
    obtain ⟨c, hc, e2⟩ := e
    rw [ad_ak_bit A x hc, Bool.and_eq_true] at e2
    exact ⟨c, hc, e2.2, e2.1⟩
  · intro h x hx
    unfold ad_dnf ad_hb
    rw [ad_ak_bit A a hx]
    cases hb : (A x).testBit a
    · rfl
    · obtain ⟨c, hc, h1, h2⟩ := h x hx hb
      rw [Bool.not_true, Bool.false_or, ad_an_iff]
      exact ⟨c, hc, by rw [ad_ak_bit A x hc, h1, h2]; rfl⟩
def ad_ddf (p : Nat) (A : Nat → Nat) (s a : Nat) : Bool := p.testBit a && decide (ad_df (ad_ak A a) (ad_hit A s) = 0)
def ad_dd (p : Nat) (A : Nat → Nat) (s : Nat) : Nat := ad_mk (ad_ddf p A s) 8
theorem ad_dd_lt (p : Nat) (A : Nat → Nat) (s : Nat) : ad_dd p A s < 256 := ad_mk_l8 _
theorem ad_dfak {A : Nat → Nat} {a s : Nat} : decide (ad_df (ad_ak A a) (ad_hit A s) = 0) = ad_dn A a s := by
  rw [Bool.eq_iff_iff, decide_eq_true_iff, ad_sub (ad_ak_lt A a), ad_dn_iff]
  constructor
  · intro h x hx hb
    exact ad_hit_iff.mp (h x hx (by rw [ad_ak_bit A a hx]; exact hb))
  · intro h x hx hb
    rw [ad_ak_bit A a hx] at hb
    exact ad_hit_iff.mpr (h x hx hb)
theorem ad_dd_bit (p : Nat) (A : Nat → Nat) (s : Nat) {a : Nat} (ha : a < 8) : (ad_dd p A s).testBit a = (p.testBit a && ad_dn A a s) := by
  unfold ad_dd
  rw [ad_mk8 _ ha]; unfold ad_ddf; rw [ad_dfak]
theorem ad_dd_iff {p : Nat} {A : Nat → Nat} {s a : Nat} (ha : a < 8) : (ad_dd p A s).testBit a = true ↔ p.testBit a = true ∧ ad_dn A a s = true := by
  rw [ad_dd_bit p A s ha, Bool.and_eq_true]
/-- part of -/
def ad_le (s t : Nat) : Prop := ∀ i, i < 8 → s.testBit i = true → t.testBit i = true
theorem ad_le_t {s t r : Nat} (h : ad_le s t) (h2 : ad_le t r) : ad_le s r := fun i hi z => h2 i hi (h i hi z)
theorem ad_le_r (s : Nat) : ad_le s s := fun _ _ z => z
theorem ad_le_a {s t : Nat} (hs : s < 256) (ht : t < 256) (h : ad_le s t) (h2 : ad_le t s) : s = t := ad_ext hs ht (fun i hi => by
  rw [Bool.eq_iff_iff]; exact ⟨h i hi, h2 i hi⟩)
theorem ad_le_0 (s : Nat) : ad_le 0 s := fun i _ z => by rw [Nat.zero_testBit] at z; exact absurd z (by decide)
theorem ad_df0 {a b : Nat} (ha : a < 256) : ad_df a b = 0 ↔ ad_le a b := ad_sub ha
theorem ad_dn_m {A : Nat → Nat} {a s t : Nat} (h : ad_le s t) (h2 : ad_dn A a s = true) : ad_dn A a t = true := by
  rw [ad_dn_iff] at h2 ⊢
  intro x hx hb
  obtain ⟨c, hc, h3, h4⟩ := h2 x hx hb
  exact ⟨c, hc, h c hc h3, h4⟩
theorem ad_dd_m {p : Nat} {A : Nat → Nat} {s t : Nat} (h : ad_le s t) : ad_le (ad_dd p A s) (ad_dd p A t) := by
  intro a ha z
  rw [ad_dd_iff ha] at z ⊢
  exact ⟨z.1, ad_dn_m h z.2⟩
/-- the graph: arguments, attacks among them -/
def ad_ok (p : Nat) (A : Nat → Nat) : Prop := p < 256 ∧ (∀ a, a < 8 → A a < 256) ∧ (∀ a b, a < 8 → b < 8 → (A a).testBit b = true → p.testBit a = true ∧ p.testBit b = true)
/-- without attacks inside -/
def ad_cf (A : Nat → Nat) (s : Nat) : Prop := ∀ a b, a < 8 → b < 8 → s.testBit a = true → s.testBit b = true → (A a).testBit b = false
theorem ad_cf_iff {A : Nat → Nat} {s : Nat} (hA : ∀ j, j < 8 → A j < 256) : ad_hit A s &&& s = 0 ↔ ad_cf A s := by
  rw [ad_disj (ad_hit_lt s hA)]
  constructor
  · intro h a b ha hb z1 z2
    cases e : (A a).testBit b
    · rfl
    · rw [h b hb (ad_hit_iff.mpr ⟨a, ha, z1, e⟩)] at z2; exact absurd z2 (by decide)
  · intro h b hb z
    obtain ⟨a, ha, z1, z2⟩ := ad_hit_iff.mp z
    cases e : s.testBit b
    · rfl
    · rw [h a b ha hb z1 e] at z2; exact absurd z2 (by decide)
/-! counting -/
def ad_pc (s : Nat) : Nat → Nat
  | 0 => 0
  | n + 1 => ad_pc s n + (if s.testBit n = true then 1 else 0)
theorem ad_pc_t {s n : Nat} (h : s.testBit n = true) : ad_pc s (n + 1) = ad_pc s n + 1 := by rw [ad_pc, if_pos h]
theorem ad_pc_f {s n : Nat} (h : s.testBit n = false) : ad_pc s (n + 1) = ad_pc s n := by rw [ad_pc, if_neg (by rw [h]; decide), Nat.add_zero]
theorem ad_pc_le (s n : Nat) : ad_pc s n ≤ n := by
  induction n with
  | zero => exact Nat.le_refl 0
  | succ n ih =>
    cases hb : s.testBit n
    · rw [ad_pc_f hb]; omega
    · rw [ad_pc_t hb]; omega
theorem ad_pc_m {s t n : Nat} (h : ∀ i, i < n → s.testBit i = true → t.testBit i = true) : ad_pc s n ≤ ad_pc t n := by
  induction n with
  | zero => exact Nat.le_refl 0
  | succ n ih =>
    have i1 := ih (fun i hi => h i (by omega))
    cases hb : s.testBit n
    · rw [ad_pc_f hb]
      cases hc : t.testBit n
      · rw [ad_pc_f hc]; exact i1
      · rw [ad_pc_t hc]; omega
    · rw [ad_pc_t hb, ad_pc_t (h n (by omega) hb)]; omega
theorem ad_pc_lt {s t n : Nat} (h : ∀ i, i < n → s.testBit i = true → t.testBit i = true) (j : Nat) (hj : j < n) (h1 : s.testBit j = false) (h2 : t.testBit j = true) : ad_pc s n < ad_pc t n := by
  induction n with
  | zero => omega
  | succ n ih =>
    by_cases e : j = n
    · subst e
      have i1 := ad_pc_m (n := j) (s := s) (t := t) (fun i hi => h i (by omega))
      rw [ad_pc_f h1, ad_pc_t h2]; omega
    · have i1 := ih (fun i hi => h i (by omega)) (by omega)
      cases hb : s.testBit n
      · rw [ad_pc_f hb]
        cases hc : t.testBit n
        · rw [ad_pc_f hc]; exact i1
        · rw [ad_pc_t hc]; omega
      · rw [ad_pc_t hb, ad_pc_t (h n (by omega) hb)]; omega
theorem ad_pc_s {s t c n : Nat} (h : ∀ i, i < n → t.testBit i = (s.testBit i || c.testBit i)) (h2 : ∀ i, i < n → (s.testBit i && c.testBit i) = false) : ad_pc t n = ad_pc s n + ad_pc c n := by
  induction n with
  | zero => rfl
  | succ n ih =>
    have i1 := ih (fun i hi => h i (by omega)) (fun i hi => h2 i (by omega))
    have e1 := h n (by omega)
    have e2 := h2 n (by omega)
    cases hb : s.testBit n
    · rw [hb, Bool.false_or] at e1
      rw [ad_pc_f hb]
      cases hc : c.testBit n
      · rw [hc] at e1; rw [ad_pc_f hc, ad_pc_f e1]; exact i1
      · rw [hc] at e1; rw [ad_pc_t hc, ad_pc_t e1]; omega
    · rw [hb, Bool.true_or] at e1
      rw [hb, Bool.true_and] at e2
      rw [ad_pc_t hb, ad_pc_f e2, ad_pc_t e1]; omega
theorem ad_fix {f s : Nat → Nat} (hs : ∀ k, s (k + 1) = f (s k)) (hl : ∀ k, s k < 256) (hm : ∀ k, ad_le (s k) (s (k + 1))) : f (s 8) = s 8 := by
  rw [← hs]
  by_cases h : ∃ k, k ≤ 8 ∧ s (k + 1) = s k
  · obtain ⟨k, hk, e⟩ := h
    have h2 : ∀ m, s (k + m + 1) = s (k + m) := by
      intro m
      induction m with
      | zero => exact e
      | succ m ih => exact (hs (k + m + 1)).trans ((congrArg f ih).trans (hs (k + m)).symm)
    have h3 := h2 (8 - k)
    rw [show k + (8 - k) = 8 by omega] at h3
    exact h3
  · have h2 : ∀ k, k ≤ 9 → k ≤ ad_pc (s k) 8 := by
      intro k
      induction k with
      | zero => intro _; exact Nat.zero_le _
      | succ k ih =>
        intro hk
        have i1 := ih (by omega)
        have ne : ¬ s (k + 1) = s k := fun e => h ⟨k, by omega, e⟩
        have : ∃ j, j < 8 ∧ (s k).testBit j = false ∧ (s (k + 1)).testBit j = true := by
          apply Classical.byContradiction
          intro c
          apply ne
          refine ad_le_a (hl _) (hl _) (fun i hi z => ?_) (hm k)
          cases hb : (s k).testBit i
          · exact absurd ⟨i, hi, hb, z⟩ c
          · rfl
        obtain ⟨j, hj, h3, h4⟩ := this
        have i2 := ad_pc_lt (hm k) j hj h3 h4
        omega
    have h3 := h2 9 (by omega)
    have h4 := ad_pc_le (s 9) 8
    omega
end
section
/-! the families, pure -/
def ad_f0 (p : Nat) (A : Nat → Nat) (s : Nat) : Bool := decide (ad_df s p = 0) && decide (ad_hit A s &&& s = 0)
def ad_f1 (p : Nat) (A : Nat → Nat) (s : Nat) : Bool := ad_f0 p A s && decide (ad_df s (ad_dd p A s) = 0)
def ad_f2 (p : Nat) (A : Nat → Nat) (s : Nat) : Bool := ad_f0 p A s && decide (s = ad_dd p A s)
def ad_f5 (p : Nat) (A : Nat → Nat) (s : Nat) : Bool := ad_f0 p A s && decide (s ||| ad_hit A s = p)
/-- what the sets of a family have in common, within p -/
def ad_cm (p : Nat) (f : Nat → Bool) : Nat → Nat
  | 0 => p
  | n + 1 => if f n = true then ad_cm p f n &&& n else ad_cm p f n
theorem ad_cm_t {p : Nat} {f : Nat → Bool} {n : Nat} (h : f n = true) : ad_cm p f (n + 1) = ad_cm p f n &&& n := if_pos h
theorem ad_cm_f {p : Nat} {f : Nat → Bool} {n : Nat} (h : f n = false) : ad_cm p f (n + 1) = ad_cm p f n := if_neg (by rw [h]; decide)
theorem ad_cm_lt {p : Nat} (f : Nat → Bool) (hp : p < 256) (n : Nat) : ad_cm p f n < 256 := by
  induction n with
  | zero => exact hp
  | succ n ih =>
    cases hb : f n
    · rw [ad_cm_f hb]; exact ih
    · rw [ad_cm_t hb]; exact ad_and_lt _ ih
theorem ad_cm_bit (p : Nat) (f : Nat → Bool) (n i : Nat) : (ad_cm p f n).testBit i = (p.testBit i && ad_al (fun s => !f s || s.testBit i) n) := by
  induction n with
  | zero => rw [ad_cm, ad_al, Bool.and_true]
  | succ n ih =>
    rw [ad_al]
    cases hb : f n
    · rw [ad_cm_f hb, ih]; simp
    · rw [ad_cm_t hb, Nat.testBit_and, ih]; simp [Bool.and_assoc]
/-- the greatest ones -/
def ad_kg (W : Nat → Bool) (s : Nat) : Bool := W s && ad_al (fun t => !(W t && decide (t ≠ s) && decide (ad_df s t = 0))) 256
/-- the greatest ones by a measure r -/
def ad_gr (W : Nat → Bool) (r : Nat → Nat) (s : Nat) : Bool := ad_al (fun t => !(W t && decide (r t ≠ r s) && decide (ad_df (r s) (r t) = 0))) 256
def ad_wi (f : Nat → Bool) (w t : Nat) : Bool := f t && decide (ad_df t w = 0)
def ad_rc (A : Nat → Nat) (s : Nat) : Nat := s ||| ad_hit A s
def ad_f3 (p : Nat) (A : Nat → Nat) (s : Nat) : Bool := ad_f2 p A s && decide (s = ad_cm p (ad_f2 p A) 256)
def ad_f4 (p : Nat) (A : Nat → Nat) : Nat → Bool := ad_kg (ad_wi (ad_f1 p A) 255)
def ad_f6 (p : Nat) (A : Nat → Nat) (s : Nat) : Bool := ad_f2 p A s && ad_gr (ad_f2 p A) (ad_rc A) s
def ad_f7 (p : Nat) (A : Nat → Nat) (s : Nat) : Bool := ad_f0 p A s && ad_gr (ad_f0 p A) (ad_rc A) s
def ad_f8 (p : Nat) (A : Nat → Nat) : Nat → Bool := ad_kg (ad_wi (ad_f0 p A) 255)
def ad_f9 (p : Nat) (A : Nat → Nat) : Nat → Bool := ad_kg (ad_wi (ad_f1 p A) (ad_cm p (ad_f4 p A) 256))
def ad_f10 (p : Nat) (A : Nat → Nat) : Nat → Bool := ad_kg (ad_wi (ad_f1 p A) (ad_cm p (ad_f6 p A) 256))
theorem ad_cm_c {p : Nat} {f g : Nat → Bool} {n : Nat} (h : ∀ s, s < n → f s = g s) : ad_cm p f n = ad_cm p g n := by
  induction n with
  | zero => rfl
  | succ n ih => rw [ad_cm, ad_cm, ih (fun s hs => h s (by omega)), h n (by omega)]
theorem ad_kg_c {f g : Nat → Bool} (h : ∀ s, s < 256 → f s = g s) {s : Nat} (hs : s < 256) : ad_kg f s = ad_kg g s := by
  unfold ad_kg
  rw [h s hs]
  congr 1
  exact ad_al_c (fun t ht => by rw [h t ht])
theorem ad_gr_c {f g : Nat → Bool} {r : Nat → Nat} (h : ∀ s, s < 256 → f s = g s) {s : Nat} : ad_gr f r s = ad_gr g r s := by
  unfold ad_gr
  exact ad_al_c (fun t ht => by rw [h t ht])
theorem ad_wi255 {f : Nat → Bool} {t : Nat} (ht : t < 256) : ad_wi f 255 t = f t := by
  unfold ad_wi
  rw [decide_eq_true ((ad_sub ht).mpr (fun i hi _ => (by decide : ∀ i, i < 8 → (255 : Nat).testBit i = true) i hi)), Bool.and_true]
theorem ad_f0_iff {p : Nat} {A : Nat → Nat} {s : Nat} (hs : s < 256) (hA : ∀ j, j < 8 → A j < 256) : ad_f0 p A s = true ↔ ad_le s p ∧ ad_cf A s := by
  unfold ad_f0
  rw [Bool.and_eq_true, decide_eq_true_iff, decide_eq_true_iff, ad_df0 hs, ad_cf_iff hA]
theorem ad_f1_iff {p : Nat} {A : Nat → Nat} {s : Nat} (hs : s < 256) : ad_f1 p A s = true ↔ ad_f0 p A s = true ∧ ad_le s (ad_dd p A s) := by
  unfold ad_f1
  rw [Bool.and_eq_true, decide_eq_true_iff, ad_df0 hs]
theorem ad_f2_iff {p : Nat} {A : Nat → Nat} {s : Nat} : ad_f2 p A s = true ↔ ad_f0 p A s = true ∧ s = ad_dd p A s := by
  unfold ad_f2
  rw [Bool.and_eq_true, decide_eq_true_iff]
/-! as the component's words have them -/
theorem ad_b_imp {a b : Bool} : (!a || b) = true ↔ (a = true → b = true) := by cases a <;> cases b <;> decide
theorem ad_x0 {p : Nat} {A : Nat → Nat} {s : Nat} (hs : s < 256) (hA : ∀ j, j < 8 → A j < 256) :
    (!ad_hb (ad_df 255 p) s && ad_al (fun a => !(s.testBit a && ad_hb (A a) s)) 8) = ad_f0 p A s := by
  unfold ad_hb
  rw [Bool.eq_iff_iff, ad_f0_iff hs hA, Bool.and_eq_true, Bool.not_eq_true', ad_an_no, ad_al_iff]
  constructor
  · rintro ⟨h1, h2⟩
    constructor
    · intro i hi z
      have e := h1 i hi
      rw [ad_df_bit (by omega), (by decide : ∀ i, i < 8 → (255 : Nat).testBit i = true) i hi, z] at e
      revert e; cases p.testBit i <;> decide
    · intro a b ha hb z1 z2
      have e := h2 a ha
      rw [z1, Bool.true_and, Bool.not_eq_true', ad_an_no] at e
      have e2 := e b hb
      rw [z2, Bool.and_true] at e2
      exact e2
  · rintro ⟨h1, h2⟩
    constructor
    · intro i hi
      rw [ad_df_bit (by omega)]
      cases hb : s.testBit i
      · rw [Bool.and_false]
      · rw [h1 i hi hb]; simp
    · intro a ha
      cases hb : s.testBit a
      · rfl
      · rw [Bool.true_and, Bool.not_eq_true', ad_an_no]
        intro b hb2
        cases hc : s.testBit b
        · rw [Bool.and_false]
        · rw [h2 a b ha hb2 hb hc]; rfl
theorem ad_x1 {p : Nat} {A : Nat → Nat} {s : Nat} (hs : s < 256) (hA : ∀ j, j < 8 → A j < 256) :
    (ad_f0 p A s && ad_al (fun a => !s.testBit a || ad_dn A a s) 8) = ad_f1 p A s := by
  rw [Bool.eq_iff_iff, ad_f1_iff hs, Bool.and_eq_true, ad_al_iff]
  constructor
  · rintro ⟨h1, h2⟩
    refine ⟨h1, fun i hi z => ?_⟩
    rw [ad_dd_iff hi]
    exact ⟨((ad_f0_iff hs hA).mp h1).1 i hi z, ad_b_imp.mp (h2 i hi) z⟩
  · rintro ⟨h1, h2⟩
    refine ⟨h1, fun i hi => ad_b_imp.mpr (fun z => ?_)⟩
    exact ((ad_dd_iff hi).mp (h2 i hi z)).2
theorem ad_x2 {p : Nat} {A : Nat → Nat} {s : Nat} (hs : s < 256) (hA : ∀ j, j < 8 → A j < 256) :
    (ad_f1 p A s && ad_al (fun a => !p.testBit a || (s.testBit a || !ad_dn A a s)) 8) = ad_f2 p A s := by
  rw [Bool.eq_iff_iff, ad_f2_iff, Bool.and_eq_true, ad_al_iff, ad_f1_iff hs]
  constructor
  · rintro ⟨⟨h0, h1⟩, h2⟩
    refine ⟨h0, ad_le_a hs (ad_dd_lt p A s) h1 (fun i hi z => ?_)⟩
    rw [ad_dd_iff hi] at z
    have e := ad_b_imp.mp (h2 i hi) z.1
    rw [z.2] at e
    simpa using e
  · rintro ⟨h0, h1⟩
    refine ⟨⟨h0, ?_⟩, fun i hi => ad_b_imp.mpr (fun z => ?_)⟩
    · rw [← h1]; exact ad_le_r s
    · cases hb : ad_dn A i s
      · simp
      · have e : (ad_dd p A s).testBit i = true := (ad_dd_iff hi).mpr ⟨z, hb⟩
        rw [← h1] at e
        rw [e]; rfl
theorem ad_x5 {p : Nat} {A : Nat → Nat} {s : Nat} (hs : s < 256) (ho : ad_ok p A) :
    (ad_f0 p A s && ad_al (fun a => !p.testBit a || (s.testBit a || ad_hb (ad_ak A a) s)) 8) = ad_f5 p A s := by
  unfold ad_hb
  obtain ⟨hp, hA, hB⟩ := ho
  unfold ad_f5
  cases h0 : ad_f0 p A s
  · rfl
  · have hsp := ((ad_f0_iff hs hA).mp h0).1
    rw [Bool.true_and, Bool.true_and, Bool.eq_iff_iff, ad_al_iff, decide_eq_true_iff]
    have key : ∀ a, a < 8 → ad_an (fun c => (ad_ak A a).testBit c && s.testBit c) 8 = (ad_hit A s).testBit a := by
      intro a _
      rw [ad_hit_bit]
      exact ad_an_c (fun c hc => by rw [ad_ak_bit A a hc, Bool.and_comm])
    constructor
    · intro h
      refine ad_ext (ad_or_lt hs (ad_hit_lt s hA)) hp (fun i hi => ?_)
      rw [Nat.testBit_or, Bool.eq_iff_iff, Bool.or_eq_true]
      constructor
      · rintro (z | z)
        · exact hsp i hi z
        · obtain ⟨a, ha, _, z2⟩ := ad_hit_iff.mp z
          exact (hB a i ha hi z2).2
      · intro z
        have e := ad_b_imp.mp (h i hi) z
        rw [key i hi, Bool.or_eq_true] at e
        exact e
    · intro h i hi
      refine ad_b_imp.mpr (fun z => ?_)
      rw [← h, Nat.testBit_or] at z
      rw [key i hi]; exact z
/-! the greatest ones, as the component finds them: all smaller sets, then what lies one argument below -/
theorem ad_pls : ∀ s, s < 256 → ∀ a, a < 8 → s.testBit a = false → s + 2 ^ a = s ||| 2 ^ a := by decide +kernel
theorem ad_pl_lt {s a : Nat} (hs : s < 256) (ha : a < 8) (h : s.testBit a = false) : s + 2 ^ a < 256 := by
  rw [ad_pls s hs a ha h]; exact ad_or_lt hs (ad_pw_lt ha)
theorem ad_pl_bit {s a : Nat} (hs : s < 256) (ha : a < 8) (h : s.testBit a = false) (i : Nat) : (s + 2 ^ a).testBit i = (s.testBit i || decide (a = i)) := by
  rw [ad_pls s hs a ha h, Nat.testBit_or, Nat.testBit_two_pow]
def ad_be (O : Nat → Bool) (a s : Nat) : Bool := !s.testBit a && O (s + 2 ^ a)
def ad_DI (W : Nat → Bool) (a : Nat) (O : Nat → Bool) : Prop := ∀ s, s < 256 → (O s = true ↔ ∃ t, t < 256 ∧ W t = true ∧ ad_le s t ∧ ∀ i, i < 8 → a ≤ i → t.testBit i = true → s.testBit i = true)
theorem ad_DI0 {W O : Nat → Bool} (h : ∀ s, s < 256 → O s = W s) : ad_DI W 0 O := by
  intro s hs
  rw [h s hs]
  constructor
  · intro z; exact ⟨s, hs, z, ad_le_r s, fun i _ _ z => z⟩
  · rintro ⟨t, ht, z, h1, h2⟩
    have e : s = t := ad_le_a hs ht h1 (fun i hi z => h2 i hi (Nat.zero_le i) z)
    rw [e]; exact z
theorem ad_DIs {W O O' : Nat → Bool} {a : Nat} (ha : a < 8) (h : ad_DI W a O) (h' : ∀ s, s < 256 → O' s = (O s || ad_be O a s)) : ad_DI W (a + 1) O' := by
  intro s hs
  rw [h' s hs, Bool.or_eq_true]
  unfold ad_be
  constructor
  · rintro (z | z)
    · obtain ⟨t, ht, z1, z2, z3⟩ := (h s hs).mp z
      exact ⟨t, ht, z1, z2, fun i hi hai => z3 i hi (by omega)⟩
    · rw [Bool.and_eq_true, Bool.not_eq_true'] at z
      obtain ⟨t, ht, z1, z2, z3⟩ := (h _ (ad_pl_lt hs ha z.1)).mp z.2
      refine ⟨t, ht, z1, fun i hi y => z2 i hi ?_, fun i hi hai y => ?_⟩
      · rw [ad_pl_bit hs ha z.1, y]; rfl
      · have e := z3 i hi (by omega) y
        rw [ad_pl_bit hs ha z.1, decide_eq_false (by omega), Bool.or_false] at e
        exact e
  · rintro ⟨t, ht, z1, z2, z3⟩
    by_cases c : s.testBit a = false ∧ t.testBit a = true
    · right
      rw [c.1, Bool.not_false, Bool.true_and]
      refine (h _ (ad_pl_lt hs ha c.1)).mpr ⟨t, ht, z1, fun i hi y => ?_, fun i hi hai y => ?_⟩
      · rw [ad_pl_bit hs ha c.1, Bool.or_eq_true, decide_eq_true_iff] at y
        rcases y with y | y
        · exact z2 i hi y
        · subst y; exact c.2
      · rw [ad_pl_bit hs ha c.1, Bool.or_eq_true, decide_eq_true_iff]
        by_cases e : a = i
        · exact Or.inr e
        · exact Or.inl (z3 i hi (by omega) y)
    · left
      refine (h s hs).mpr ⟨t, ht, z1, z2, fun i hi hai y => ?_⟩
      by_cases e : a = i
      · subst e
        cases hb : s.testBit a
        · exact absurd ⟨hb, y⟩ c
        · rfl
      · exact z3 i hi (by omega) y
theorem ad_kgX {W O : Nat → Bool} (h : ad_DI W 8 O) {s : Nat} (hs : s < 256) : (W s && ad_al (fun a => !ad_be O a s) 8) = ad_kg W s := by
  unfold ad_kg
  congr 1
  rw [Bool.eq_iff_iff, ad_al_iff, ad_al_iff]
  constructor
  · intro z t ht
    rw [Bool.not_eq_true', Bool.and_eq_false_iff, Bool.and_eq_false_iff]
    cases hw : W t
    · exact Or.inl (Or.inl rfl)
    · by_cases e : t = s
      · exact Or.inl (Or.inr (decide_eq_false (fun c => c e)))
      · right
        refine decide_eq_false (fun c => ?_)
        rw [ad_df0 hs] at c
        have : ∃ a, a < 8 ∧ s.testBit a = false ∧ t.testBit a = true := by
          apply Classical.byContradiction
          intro n
          apply e
          refine ad_le_a ht hs (fun i hi y => ?_) c
          cases hb : s.testBit i
          · exact absurd ⟨i, hi, hb, y⟩ n
          · rfl
        obtain ⟨a, ha, y1, y2⟩ := this
        have e2 := z a ha
        unfold ad_be at e2
        rw [y1, Bool.not_false, Bool.true_and, Bool.not_eq_true'] at e2
        have e3 : O (s + 2 ^ a) = true := (h _ (ad_pl_lt hs ha y1)).mpr ⟨t, ht, hw, fun i hi y => by
          rw [ad_pl_bit hs ha y1, Bool.or_eq_true, decide_eq_true_iff] at y
          rcases y with y | y
          · exact c i hi y
          · subst y; exact y2, fun i hi hai _ => by omega⟩
        rw [e3] at e2; exact absurd e2 (by decide)
  · intro z a ha
    rw [Bool.not_eq_true']
    cases hb : ad_be O a s
    · rfl
    · unfold ad_be at hb
      rw [Bool.and_eq_true, Bool.not_eq_true'] at hb
      obtain ⟨t, ht, z1, z2, _⟩ := (h _ (ad_pl_lt hs ha hb.1)).mp hb.2
      have e := z t ht
      have c1 : t ≠ s := by
        intro c
        have := z2 a ha (by rw [ad_pl_bit hs ha hb.1, decide_eq_true rfl, Bool.or_true])
        rw [c, hb.1] at this; exact absurd this (by decide)
      have c2 : ad_df s t = 0 := (ad_df0 hs).mpr (fun i hi y => z2 i hi (by rw [ad_pl_bit hs ha hb.1, y]; rfl))
      rw [z1, decide_eq_true c1, decide_eq_true c2] at e
      exact absurd e (by decide)
/-! by reach -/
theorem ad_grX {f R : Nat → Bool} {r : Nat → Nat} (hr : ∀ s, s < 256 → r s < 256) (hR : ∀ u, u < 256 → R u = ad_an (fun t => f t && decide (r t = u)) 256) {s : Nat} (hs : s < 256) : (f s && ad_kg R (r s)) = (f s && ad_gr f r s) := by
  cases hf : f s
  · rfl
  · rw [Bool.true_and, Bool.true_and]
    unfold ad_kg ad_gr
    have h1 : R (r s) = true := by
      rw [hR _ (hr s hs), ad_an_iff]
      exact ⟨s, hs, by rw [hf, decide_eq_true rfl]; rfl⟩
    rw [h1, Bool.true_and, Bool.eq_iff_iff, ad_al_iff, ad_al_iff]
    constructor
    · intro z t ht
      cases hft : f t
      · rfl
      · have h2 : R (r t) = true := by
          rw [hR _ (hr t ht), ad_an_iff]
          exact ⟨t, ht, by rw [hft, decide_eq_true rfl]; rfl⟩
        have e := z (r t) (hr t ht)
        rw [h2] at e
        exact e
    · intro z u hu
      cases hRu : R u
      · rfl
      · rw [hR u hu, ad_an_iff] at hRu
        obtain ⟨t, ht, e⟩ := hRu
        rw [Bool.and_eq_true, decide_eq_true_iff] at e
        have e2 := z t ht
        rw [e.1, e.2] at e2
        exact e2
/-! the least one -/
def ad_ls (p : Nat) (A : Nat → Nat) : Nat → Nat
  | 0 => 0
  | n + 1 => ad_dd p A (ad_ls p A n)
theorem ad_ls_lt (p : Nat) (A : Nat → Nat) (n : Nat) : ad_ls p A n < 256 := by
  cases n with
  | zero => exact (by decide : 0 < 256)
  | succ n => exact ad_dd_lt _ _ _
theorem ad_ls_m (p : Nat) (A : Nat → Nat) (n : Nat) : ad_le (ad_ls p A n) (ad_ls p A (n + 1)) := by
  induction n with
  | zero => exact ad_le_0 _
  | succ n ih => exact ad_dd_m ih
theorem ad_ls_fix (p : Nat) (A : Nat → Nat) : ad_dd p A (ad_ls p A 8) = ad_ls p A 8 := ad_fix (f := ad_dd p A) (s := ad_ls p A) (fun _ => rfl) (ad_ls_lt p A) (ad_ls_m p A)
theorem ad_dd_cf {p : Nat} {A : Nat → Nat} {s : Nat} (h : ad_cf A s) : ad_cf A (ad_dd p A s) := by
  intro a b ha hb z1 z2
  rw [ad_dd_iff ha] at z1
  rw [ad_dd_iff hb] at z2
  cases e : (A a).testBit b
  · rfl
  · obtain ⟨c, hc, y1, y2⟩ := ad_dn_iff.mp z2.2 a ha e
    obtain ⟨d, hd, y3, y4⟩ := ad_dn_iff.mp z1.2 c hc y2
    rw [h d c hd hc y3 y1] at y4
    exact absurd y4 (by decide)
theorem ad_ls_cf (p : Nat) (A : Nat → Nat) (n : Nat) : ad_cf A (ad_ls p A n) := by
  induction n with
  | zero => intro a b _ _ z; rw [show ad_ls p A 0 = 0 from rfl, Nat.zero_testBit] at z; exact absurd z (by decide)
  | succ n ih => exact ad_dd_cf ih
theorem ad_ls_least {p : Nat} {A : Nat → Nat} {t : Nat} (h : t = ad_dd p A t) (n : Nat) : ad_le (ad_ls p A n) t := by
  induction n with
  | zero => exact ad_le_0 t
  | succ n ih => rw [h]; exact ad_dd_m ih
theorem ad_ls_p (p : Nat) (A : Nat → Nat) (n : Nat) : ad_le (ad_ls p A n) p := by
  cases n with
  | zero => exact ad_le_0 p
  | succ n => intro i hi z; exact ((ad_dd_iff hi).mp z).1
theorem ad_f2ls {p : Nat} {A : Nat → Nat} (hA : ∀ j, j < 8 → A j < 256) : ad_f2 p A (ad_ls p A 8) = true := by
  rw [ad_f2_iff, ad_f0_iff (ad_ls_lt p A 8) hA]
  exact ⟨⟨ad_ls_p p A 8, ad_ls_cf p A 8⟩, (ad_ls_fix p A).symm⟩
theorem ad_cm2 {p : Nat} {A : Nat → Nat} (ho : ad_ok p A) : ad_cm p (ad_f2 p A) 256 = ad_ls p A 8 := by
  obtain ⟨hp, hA, hB⟩ := ho
  refine ad_ext (ad_cm_lt _ hp 256) (ad_ls_lt p A 8) (fun i hi => ?_)
  rw [ad_cm_bit, Bool.eq_iff_iff, Bool.and_eq_true, ad_al_iff]
  constructor
  · rintro ⟨_, h2⟩
    exact ad_b_imp.mp (h2 _ (ad_ls_lt p A 8)) (ad_f2ls hA)
  · intro z
    refine ⟨ad_ls_p p A 8 i hi z, fun t _ => ad_b_imp.mpr (fun y => ?_)⟩
    exact ad_ls_least (ad_f2_iff.mp y).2 8 i hi z
theorem ad_x3 {p : Nat} {A : Nat → Nat} (ho : ad_ok p A) (s : Nat) : ad_f3 p A s = decide (s = ad_ls p A 8) := by
  unfold ad_f3
  rw [ad_cm2 ho]
  by_cases e : s = ad_ls p A 8
  · rw [decide_eq_true e, Bool.and_true, e, ad_f2ls ho.2.1]
  · rw [decide_eq_false e, Bool.and_false]
end
section
/-! what one comes to, circles, parts: pure -/
def ad_ct (A : Nat → Nat) (g a : Nat) : Nat → Nat
  | 0 => 2 ^ a
  | n + 1 => ad_ct A g a n ||| (ad_hit A (ad_ct A g a n) &&& g)
def ad_crf (A : Nat → Nat) (g a b : Nat) : Bool := (ad_ct A g a 8).testBit b && (ad_ct A g b 8).testBit a
def ad_cr (A : Nat → Nat) (g a : Nat) : Nat := ad_mk (ad_crf A g a) 8
theorem ad_ct_lt {A : Nat → Nat} {g a : Nat} (hg : g < 256) (ha : a < 8) (n : Nat) : ad_ct A g a n < 256 := by
  induction n with
  | zero => exact ad_pw_lt ha
  | succ n ih => exact ad_or_lt ih (ad_and_lt' _ hg)
/-- one comes from a to b over attacks into g -/
def ad_R (A : Nat → Nat) (g a b : Nat) : Prop := ∀ S : Nat → Prop, S a → (∀ x y, x < 8 → y < 8 → S x → (A x).testBit y = true → g.testBit y = true → S y) → S b
theorem ad_R_r (A : Nat → Nat) (g a : Nat) : ad_R A g a a := fun _ h _ => h
theorem ad_R_t {A : Nat → Nat} {g a b c : Nat} (h1 : ad_R A g a b) (h2 : ad_R A g b c) : ad_R A g a c := fun S hS hC => h2 S (h1 S hS hC) hC
theorem ad_R_s {A : Nat → Nat} {g a b c : Nat} (h1 : ad_R A g a b) (hb : b < 8) (hc : c < 8) (h2 : (A b).testBit c = true) (h3 : g.testBit c = true) : ad_R A g a c := fun S hS hC => hC b c hb hc (h1 S hS hC) h2 h3
theorem ad_R_g {A : Nat → Nat} {g a b : Nat} (ha : g.testBit a = true) (h : ad_R A g a b) : g.testBit b = true := h (fun y => g.testBit y = true) ha (fun _ _ _ _ _ _ z => z)
theorem ad_ct_R {A : Nat → Nat} {g a : Nat} (hg : g < 256) (ha : a < 8) (n : Nat) : ∀ b, (ad_ct A g a n).testBit b = true → ad_R A g a b := by
  induction n with
  | zero =>
    intro b h
    rw [ad_ct, Nat.testBit_two_pow, decide_eq_true_iff] at h
    subst h; exact ad_R_r A g a
  | succ n ih =>
    intro b h
    rw [ad_ct, Nat.testBit_or, Bool.or_eq_true] at h
    rcases h with h | h
    · exact ih b h
    · rw [Nat.testBit_and, Bool.and_eq_true] at h
      obtain ⟨x, hx, h1, h2⟩ := ad_hit_iff.mp h.1
      exact ad_R_s (ih x h1) hx (ad_bs hg h.2) h2 h.2
theorem ad_ct_fix {A : Nat → Nat} {g a : Nat} (hg : g < 256) (ha : a < 8) : ad_ct A g a 8 ||| (ad_hit A (ad_ct A g a 8) &&& g) = ad_ct A g a 8 := by
  refine ad_fix (f := fun t => t ||| (ad_hit A t &&& g)) (s := ad_ct A g a) (fun _ => rfl) (ad_ct_lt hg ha) (fun k i hi z => ?_)
  rw [ad_ct, Nat.testBit_or, z]; rfl
theorem ad_ct_m {A : Nat → Nat} {g a : Nat} (n : Nat) : (ad_ct A g a n).testBit a = true := by
  induction n with
  | zero => rw [ad_ct, Nat.testBit_two_pow, decide_eq_true rfl]
  | succ n ih => rw [ad_ct, Nat.testBit_or, ih]; rfl
theorem ad_ct_iff {A : Nat → Nat} {g a b : Nat} (hg : g < 256) (ha : a < 8) : (ad_ct A g a 8).testBit b = true ↔ ad_R A g a b := by
  constructor
  · exact ad_ct_R hg ha 8 b
  · intro h
    refine h (fun y => (ad_ct A g a 8).testBit y = true) (ad_ct_m 8) (fun x y hx hy z1 z2 z3 => ?_)
    rw [← ad_ct_fix hg ha, Nat.testBit_or, Nat.testBit_and, ad_hit_iff.mpr ⟨x, hx, z1, z2⟩, z3]
    simp
theorem ad_cr_iff {A : Nat → Nat} {g a b : Nat} (hg : g < 256) (ha : a < 8) (hb : b < 8) : (ad_cr A g a).testBit b = true ↔ ad_R A g a b ∧ ad_R A g b a := by
  unfold ad_cr
  rw [ad_mk8 _ hb]
  unfold ad_crf
  rw [Bool.and_eq_true, ad_ct_iff hg ha, ad_ct_iff hg hb]
theorem ad_cr_lt (A : Nat → Nat) (g a : Nat) : ad_cr A g a < 256 := ad_mk_l8 _
theorem ad_cr_self {A : Nat → Nat} {g a : Nat} (hg : g < 256) (ha : a < 8) : (ad_cr A g a).testBit a = true := (ad_cr_iff hg ha ha).mpr ⟨ad_R_r A g a, ad_R_r A g a⟩
/-! Warshall's rounds -/
def ad_w0 (A : Nat → Nat) (g a : Nat) : Nat := if g.testBit a = true then (A a &&& g) ||| 2 ^ a else 0
def ad_wa (C : Nat → Nat) (c a : Nat) : Nat := if (C a).testBit c = true then C a ||| C c else C a
theorem ad_wa_c (C : Nat → Nat) (c : Nat) : ad_wa C c c = C c := by
  unfold ad_wa; split
  · exact Nat.or_self _
  · rfl
theorem ad_wa_t {C : Nat → Nat} {c a : Nat} (h : (C a).testBit c = true) : ad_wa C c a = C a ||| C c := if_pos h
theorem ad_wa_f {C : Nat → Nat} {c a : Nat} (h : (C a).testBit c = false) : ad_wa C c a = C a := if_neg (by rw [h]; decide)
theorem ad_wa_iff {C : Nat → Nat} {c a b : Nat} : (ad_wa C c a).testBit b = true ↔ (C a).testBit b = true ∨ ((C a).testBit c = true ∧ (C c).testBit b = true) := by
  cases h : (C a).testBit c
  · rw [ad_wa_f h]
    exact ⟨fun z => Or.inl z, fun z => z.elim id (fun y => absurd y.1 (by decide))⟩
  · rw [ad_wa_t h, Nat.testBit_or, Bool.or_eq_true]
    exact ⟨fun z => z.imp id (fun y => ⟨rfl, y⟩), fun z => z.imp id (fun y => y.2)⟩
def ad_wn (A : Nat → Nat) (g : Nat) : Nat → Nat → Nat
  | 0 => ad_w0 A g
  | c + 1 => ad_wa (ad_wn A g c) c
theorem ad_w0_lt {A : Nat → Nat} {g a : Nat} (hg : g < 256) (ha : a < 8) : ad_w0 A g a < 256 := by
  unfold ad_w0; split
  · exact ad_or_lt (ad_and_lt' _ hg) (ad_pw_lt ha)
  · decide
theorem ad_wn_lt {A : Nat → Nat} {g : Nat} (hg : g < 256) (n : Nat) (hn : n ≤ 8) : ∀ a, a < 8 → ad_wn A g n a < 256 := by
  induction n with
  | zero => intro a ha; exact ad_w0_lt hg ha
  | succ n ih =>
    intro a ha
    rw [ad_wn]; unfold ad_wa; split
    · exact ad_or_lt (ih (by omega) a ha) (ih (by omega) n (by omega))
    · exact ih (by omega) a ha
theorem ad_w0_iff {A : Nat → Nat} {g a b : Nat} : (ad_w0 A g a).testBit b = true ↔ g.testBit a = true ∧ (((A a).testBit b = true ∧ g.testBit b = true) ∨ a = b) := by
  unfold ad_w0
  cases h : g.testBit a
  · rw [if_neg (by decide), Nat.zero_testBit]
    exact ⟨fun z => absurd z (by decide), fun z => absurd z.1 (by decide)⟩
  · rw [if_pos rfl, Nat.testBit_or, Nat.testBit_and, Nat.testBit_two_pow, Bool.or_eq_true, Bool.and_eq_true, decide_eq_true_iff]
    exact ⟨fun z => ⟨rfl, z⟩, fun z => z.2⟩
theorem ad_wn_R {A : Nat → Nat} {g : Nat} (hg : g < 256) (n : Nat) (hn : n ≤ 8) : ∀ a b, a < 8 → (ad_wn A g n a).testBit b = true → g.testBit a = true ∧ ad_R A g a b := by
  induction n with
  | zero =>
    intro a b ha h
    have h := ad_w0_iff.mp h
    refine ⟨h.1, ?_⟩
    rcases h.2 with z | z
    · exact ad_R_s (ad_R_r A g a) ha (ad_bs hg z.2) z.1 z.2
    · subst z; exact ad_R_r A g a
  | succ n ih =>
    intro a b ha h
    rw [ad_wn, ad_wa_iff] at h
    rcases h with z | z
    · exact ih (by omega) a b ha z
    · have i1 := ih (by omega) a n ha z.1
      have i2 := ih (by omega) n b (by omega) z.2
      exact ⟨i1.1, ad_R_t i1.2 i2.2⟩
theorem ad_wn_0 {A : Nat → Nat} {g : Nat} (n : Nat) : ∀ a b, (ad_w0 A g a).testBit b = true → (ad_wn A g n a).testBit b = true := by
  induction n with
  | zero => intro a b h; exact h
  | succ n ih => intro a b h; rw [ad_wn, ad_wa_iff]; exact Or.inl (ih a b h)
theorem ad_wn_t {A : Nat → Nat} {g : Nat} (n : Nat) : ∀ k, k < n → ∀ a b, (ad_wn A g n a).testBit k = true → (ad_wn A g n k).testBit b = true → (ad_wn A g n a).testBit b = true := by
  induction n with
  | zero => intro k hk; exact absurd hk (Nat.not_lt_zero k)
  | succ n ih =>
    intro k hk a b h1 h2
    rw [ad_wn] at h1 h2 ⊢
    rw [ad_wa_iff] at h1 h2 ⊢
    by_cases e : k = n
    · subst e
      have c1 : (ad_wn A g k a).testBit k = true := h1.elim id (fun z => z.1)
      have c2 : (ad_wn A g k k).testBit b = true := h2.elim id (fun z => z.2)
      exact Or.inr ⟨c1, c2⟩
    · have hk2 : k < n := by omega
      rcases h1 with h1 | h1
      · rcases h2 with h2 | h2
        · exact Or.inl (ih k hk2 a b h1 h2)
        · exact Or.inr ⟨ih k hk2 a n h1 h2.1, h2.2⟩
      · rcases h2 with h2 | h2
        · exact Or.inr ⟨h1.1, ih k hk2 n b h1.2 h2⟩
        · exact Or.inr ⟨h1.1, h2.2⟩
theorem ad_wn_iff {A : Nat → Nat} {g a b : Nat} (hg : g < 256) (ha : a < 8) : (ad_wn A g 8 a).testBit b = true ↔ g.testBit a = true ∧ ad_R A g a b := by
  constructor
  · exact ad_wn_R hg 8 (Nat.le_refl 8) a b ha
  · rintro ⟨h1, h2⟩
    refine h2 (fun y => (ad_wn A g 8 a).testBit y = true) (ad_wn_0 8 a a (ad_w0_iff.mpr ⟨h1, Or.inr rfl⟩)) (fun x y hx hy z1 z2 z3 => ?_)
    have hxg : g.testBit x = true := ad_R_g h1 (ad_wn_R hg 8 (Nat.le_refl 8) a x ha z1).2
    exact ad_wn_t 8 x hx a y z1 (ad_wn_0 8 x y (ad_w0_iff.mpr ⟨hxg, Or.inl ⟨z2, z3⟩⟩))
def ad_pof (C : Nat → Nat) (g lo a : Nat) : Bool := g.testBit a && (C lo).testBit a && (C a).testBit lo
theorem ad_crX {A : Nat → Nat} {g lo : Nat} (hg : g < 256) (hl : lo < 8) (h : g.testBit lo = true) : ad_mk (ad_pof (ad_wn A g 8) g lo) 8 = ad_cr A g lo := by
  refine ad_ext (ad_mk_l8 _) (ad_cr_lt A g lo) (fun i hi => ?_)
  rw [ad_mk8 _ hi]
  unfold ad_pof
  rw [Bool.eq_iff_iff, Bool.and_eq_true, Bool.and_eq_true, ad_wn_iff hg hl, ad_wn_iff hg hi, ad_cr_iff hg hl hi]
  constructor
  · rintro ⟨⟨_, h2⟩, h3⟩; exact ⟨h2.2, h3.2⟩
  · rintro ⟨h2, h3⟩
    have := ad_R_g h h2
    exact ⟨⟨this, h, h2⟩, this, h3⟩
/-! a naive set within a group -/
def ad_flf (A : Nat → Nat) (o g a : Nat) : Bool := !(g.testBit a && !o.testBit a && decide (ad_hit A (o ||| 2 ^ a) &&& (o ||| 2 ^ a) = 0))
def ad_fl (A : Nat → Nat) (o g : Nat) : Bool := decide (ad_hit A o &&& o = 0) && ad_al (ad_flf A o g) 8
/-! the parts of a group, from the lowest argument on: d steps are left -/
def ad_np (A : Nat → Nat) (s g a : Nat) : Nat := ad_df (ad_cr A g a) (ad_hit A (ad_df (s &&& g) (ad_cr A g a)))
def ad_ps (A : Nat → Nat) (s g : Nat) : Nat → Nat → List Nat
  | 0, _ => []
  | d + 1, l => if l.testBit (7 - d) = true then ad_np A s g (7 - d) :: ad_ps A s g d (ad_df l (ad_cr A g (7 - d))) else ad_ps A s g d l
def ad_lo (l : Nat) : Nat → Nat
  | 0 => 0
  | d + 1 => if l.testBit (7 - d) = true then 7 - d else ad_lo l d
theorem ad_ps_t {A : Nat → Nat} {s g d l : Nat} (h : l.testBit (7 - d) = true) : ad_ps A s g (d + 1) l = ad_np A s g (7 - d) :: ad_ps A s g d (ad_df l (ad_cr A g (7 - d))) := if_pos h
theorem ad_ps_f {A : Nat → Nat} {s g d l : Nat} (h : l.testBit (7 - d) = false) : ad_ps A s g (d + 1) l = ad_ps A s g d l := if_neg (by rw [h]; decide)
def ad_isl (l a : Nat) : Prop := a < 8 ∧ l.testBit a = true ∧ ∀ i, i < a → l.testBit i = false
theorem ad_isl_u {l a b : Nat} (h : ad_isl l a) (h2 : ad_isl l b) : a = b := by
  rcases Nat.lt_trichotomy a b with z | z | z
  · have := h2.2.2 a z; rw [h.2.1] at this; exact absurd this (by decide)
  · exact z
  · have := h.2.2 b z; rw [h2.2.1] at this; exact absurd this (by decide)
theorem ad_lo_is {l : Nat} (hl : l < 256) (h : l ≠ 0) : ad_isl l (ad_lo l 8) := by
  have key : ∀ d, d ≤ 8 → (∀ i, i < 8 - d → l.testBit i = false) → ad_isl l (ad_lo l d) := by
    intro d
    induction d with
    | zero =>
      intro _ h2
      obtain ⟨i, hi, h3⟩ := ad_nz hl h
      rw [h2 i (by omega)] at h3; exact absurd h3 (by decide)
    | succ d ih =>
      intro hd h2
      rw [ad_lo]
      cases hb : l.testBit (7 - d)
      · rw [if_neg (by decide)]
        refine ih (by omega) (fun i hi => ?_)
        by_cases e : i = 7 - d
        · rw [e]; exact hb
        · exact h2 i (by omega)
      · rw [if_pos rfl]
        exact ⟨by omega, hb, fun i hi => h2 i (by omega)⟩
  exact key 8 (Nat.le_refl 8) (fun i hi => by omega)
theorem ad_ps_lo {A : Nat → Nat} {s g l a : Nat} (h : ad_isl l a) : ∀ d, d ≤ 8 → 8 - d ≤ a → ad_ps A s g d l = ad_np A s g a :: ad_ps A s g (7 - a) (ad_df l (ad_cr A g a)) := by
  intro d
  induction d with
  | zero => intro _ h2; have := h.1; omega
  | succ d ih =>
    intro hd h2
    by_cases e : a = 7 - d
    · rw [ad_ps_t (by rw [← e]; exact h.2.1), ← e, show 7 - a = d by omega]
    · rw [ad_ps_f (h.2.2 (7 - d) (by omega))]
      exact ih (by omega) (by omega)
theorem ad_ps_0 {A : Nat → Nat} {s g : Nat} (d : Nat) : ad_ps A s g d 0 = [] := by
  induction d with
  | zero => rfl
  | succ d ih => rw [ad_ps_f (Nat.zero_testBit _), ih]
/-- whether a set fits a group's parts -/
def ad_okN (A : Nat → Nat) (s : Nat) : Nat → Nat → Bool
  | 0, _ => true
  | n + 1, g => if g = 0 then true else if ad_cr A g (ad_lo g 8) = g then ad_fl A (s &&& g) g else (ad_ps A s g 8 g).all (ad_okN A s n)
def ad_pop (g : Nat) : Nat := ad_pc g 8
def ad_mu (g : Nat) : Nat := if g = 0 then 1 else 2 * ad_pop g - 1
def ad_M (L : List Nat) : Nat := (L.map ad_mu).sum
theorem ad_M_app (L K : List Nat) : ad_M (L ++ K) = ad_M L + ad_M K := by unfold ad_M; rw [List.map_append, List.sum_append_nat]
theorem ad_M_c (g : Nat) (L : List Nat) : ad_M (g :: L) = ad_mu g + ad_M L := by unfold ad_M; rw [List.map_cons, List.sum_cons]
theorem ad_M_0 : ad_M [] = 0 := rfl
theorem ad_pop_pos {g : Nat} (hg : g < 256) (h : g ≠ 0) : 0 < ad_pop g := by
  obtain ⟨i, hi, h2⟩ := ad_nz hg h
  have := ad_pc_lt (s := 0) (t := g) (n := 8) (fun i _ z => by rw [Nat.zero_testBit] at z; exact absurd z (by decide)) i hi (Nat.zero_testBit i) h2
  show 0 < ad_pc g 8
  omega
theorem ad_mu_pos {g : Nat} (hg : g < 256) : 0 < ad_mu g := by
  unfold ad_mu; split
  · decide
  · have := ad_pop_pos hg (by assumption); omega
theorem ad_mu_le {g c : Nat} (hg : g < 256) (hc : 0 < ad_pop c) (h : ad_le g c) : ad_mu g ≤ 2 * ad_pop c - 1 := by
  unfold ad_mu; split
  · omega
  · have : ad_pop g ≤ ad_pop c := ad_pc_m (fun i hi => h i hi)
    omega
theorem ad_mu15 (g : Nat) : ad_mu g ≤ 15 := by
  unfold ad_mu; split
  · decide
  · have : ad_pc g 8 ≤ 8 := ad_pc_le g 8
    show 2 * ad_pc g 8 - 1 ≤ 15
    omega
theorem ad_M_len {L : List Nat} (h : ∀ g, g ∈ L → g < 256) : L.length ≤ ad_M L := by
  induction L with
  | nil => exact Nat.le_refl 0
  | cons g L ih =>
    have i1 := ih (fun x hx => h x (List.mem_cons_of_mem _ hx))
    have i2 := ad_mu_pos (h g (List.mem_cons_self ..))
    rw [ad_M_c, List.length_cons]; omega
/-- a union of circles -/
def ad_un (A : Nat → Nat) (g l : Nat) : Prop := ad_le l g ∧ ∀ x y, x < 8 → y < 8 → l.testBit x = true → ad_R A g x y → ad_R A g y x → l.testBit y = true
theorem ad_un_g (A : Nat → Nat) (g : Nat) : ad_un A g g := ⟨ad_le_r g, fun _ _ _ _ h1 h2 _ => ad_R_g h1 h2⟩
theorem ad_cr_le {A : Nat → Nat} {g l a : Nat} (hg : g < 256) (h : ad_un A g l) (ha : a < 8) (hl : l.testBit a = true) : ad_le (ad_cr A g a) l := by
  intro i hi z
  have z := (ad_cr_iff hg ha hi).mp z
  exact h.2 a i ha hi hl z.1 z.2
theorem ad_un_s {A : Nat → Nat} {g l a : Nat} (hg : g < 256) (h : ad_un A g l) (ha : a < 8) : ad_un A g (ad_df l (ad_cr A g a)) := by
  constructor
  · intro i hi z
    rw [ad_df_bit (by omega), Bool.and_eq_true] at z
    exact h.1 i hi z.1
  · intro x y hx hy z h1 h2
    rw [ad_df_bit (by omega), Bool.and_eq_true, Bool.not_eq_true'] at z ⊢
    refine ⟨h.2 x y hx hy z.1 h1 h2, ?_⟩
    cases hb : (ad_cr A g a).testBit y
    · rfl
    · have c := (ad_cr_iff hg ha hy).mp hb
      have : (ad_cr A g a).testBit x = true := (ad_cr_iff hg ha hx).mpr ⟨ad_R_t c.1 h2, ad_R_t h1 c.2⟩
      rw [this] at z; exact absurd z.2 (by decide)
theorem ad_pop_s {l c : Nat} (h : ad_le c l) : ad_pop l = ad_pop (ad_df l c) + ad_pop c := by
  refine ad_pc_s (fun i hi => ?_) (fun i hi => ?_)
  · rw [ad_df_bit (by omega)]
    cases hb : c.testBit i
    · simp
    · rw [h i hi hb]; rfl
  · rw [ad_df_bit (by omega)]
    cases c.testBit i <;> simp
theorem ad_np_lt (A : Nat → Nat) (s g a : Nat) : ad_np A s g a < 256 := ad_df_lt _ (ad_cr_lt A g a)
theorem ad_np_le (A : Nat → Nat) (s g a : Nat) : ad_le (ad_np A s g a) (ad_cr A g a) := by
  intro i hi z
  unfold ad_np at z
  rw [ad_df_bit (by omega), Bool.and_eq_true] at z
  exact z.1
theorem ad_cr_pop {A : Nat → Nat} {g a : Nat} (hg : g < 256) (ha : a < 8) : 0 < ad_pop (ad_cr A g a) := ad_pop_pos (ad_cr_lt A g a) (fun e => by
  have := ad_cr_self (A := A) hg ha
  rw [e, Nat.zero_testBit] at this; exact absurd this (by decide))
theorem ad_ps_M {A : Nat → Nat} {s g : Nat} (hg : g < 256) : ∀ d, d ≤ 8 → ∀ l, l < 256 → ad_un A g l → (∀ i, i < 8 - d → l.testBit i = false) → ad_M (ad_ps A s g d l) + (ad_ps A s g d l).length ≤ 2 * ad_pop l := by
  intro d
  induction d with
  | zero => intro _ l _ _ _; exact Nat.zero_le _
  | succ d ih =>
    intro hd l hl hu h2
    cases hb : l.testBit (7 - d)
    · rw [ad_ps_f hb]
      refine ih (by omega) l hl hu (fun i hi => ?_)
      by_cases e : i = 7 - d
      · rw [e]; exact hb
      · exact h2 i (by omega)
    · rw [ad_ps_t hb, ad_M_c, List.length_cons]
      have ha : 7 - d < 8 := by omega
      have i1 := ih (by omega) (ad_df l (ad_cr A g (7 - d))) (ad_df_lt _ hl) (ad_un_s hg hu ha) (fun i hi => by
        rw [ad_df_bit (by omega)]
        by_cases e : i = 7 - d
        · rw [e, ad_cr_self hg ha]; simp
        · rw [h2 i (by omega)]; rfl)
      have i2 := ad_pop_s (ad_cr_le hg hu ha hb)
      have i3 := ad_cr_pop (A := A) hg ha
      have i4 := ad_mu_le (ad_np_lt A s g (7 - d)) i3 (ad_np_le A s g (7 - d))
      omega
theorem ad_ps_lt {A : Nat → Nat} {s g : Nat} : ∀ d l x, x ∈ ad_ps A s g d l → x < 256 := by
  intro d
  induction d with
  | zero => intro l x h; exact absurd h (List.not_mem_nil)
  | succ d ih =>
    intro l x h
    cases hb : l.testBit (7 - d)
    · rw [ad_ps_f hb] at h; exact ih l x h
    · rw [ad_ps_t hb] at h
      rcases List.mem_cons.mp h with e | e
      · rw [e]; exact ad_np_lt A s g _
      · exact ih _ x e
theorem ad_ps_len {A : Nat → Nat} {s g l : Nat} (hl : l < 256) (h : l ≠ 0) {d : Nat} (hd : d ≤ 8) (h2 : ∀ i, i < 8 - d → l.testBit i = false) : 1 ≤ (ad_ps A s g d l).length := by
  have h3 := ad_lo_is hl h
  rw [ad_ps_lo h3 d hd (by
    rcases Nat.lt_or_ge (ad_lo l 8) (8 - d) with z | z
    · have := h2 _ z; rw [h3.2.1] at this; exact absurd this (by decide)
    · exact z), List.length_cons]
  omega
/-- a group that falls apart: its parts weigh less -/
theorem ad_ps_dec {A : Nat → Nat} {s g : Nat} (hg : g < 256) (h : g ≠ 0) (hc : ¬ ad_cr A g (ad_lo g 8) = g) : ad_M (ad_ps A s g 8 g) < ad_mu g := by
  have h1 := ad_lo_is hg h
  have h2 := ad_ps_M (A := A) (s := s) hg 8 (Nat.le_refl 8) g hg (ad_un_g A g) (fun i hi => by omega)
  have h3 : 2 ≤ (ad_ps A s g 8 g).length := by
    rw [ad_ps_lo h1 8 (Nat.le_refl 8) (by omega), List.length_cons]
    have h4 : 1 ≤ (ad_ps A s g (7 - ad_lo g 8) (ad_df g (ad_cr A g (ad_lo g 8)))).length := by
      have hlt := h1.1
      refine ad_ps_len (ad_df_lt _ hg) (fun e => hc ?_) (by omega) (fun i hi => ?_)
      · exact ad_le_a (ad_cr_lt A g _) hg (ad_cr_le hg (ad_un_g A g) h1.1 h1.2.1) ((ad_df0 hg).mp e)
      · rw [ad_df_bit (by omega)]
        by_cases e : i = ad_lo g 8
        · rw [e, ad_cr_self hg h1.1]; simp
        · rw [h1.2.2 i (by omega)]; rfl
    omega
  unfold ad_mu
  rw [if_neg h]
  omega
theorem ad_M_mem {L : List Nat} {x : Nat} (h : x ∈ L) : ad_mu x ≤ ad_M L := by
  induction L with
  | nil => exact absurd h (List.not_mem_nil)
  | cons g L ih =>
    rw [ad_M_c]
    rcases List.mem_cons.mp h with e | e
    · rw [e]; omega
    · have := ih e; omega
theorem ad_all_c {f g : Nat → Bool} {L : List Nat} (h : ∀ x, x ∈ L → f x = g x) : L.all f = L.all g := by
  induction L with
  | nil => rfl
  | cons x L ih => rw [List.all_cons, List.all_cons, h x (List.mem_cons_self ..), ih (fun y hy => h y (List.mem_cons_of_mem _ hy))]
theorem ad_okN_s {A : Nat → Nat} {s : Nat} : ∀ n m g, g < 256 → ad_mu g ≤ n → ad_mu g ≤ m → ad_okN A s n g = ad_okN A s m g := by
  intro n
  induction n with
  | zero => intro m g hg h1 h2; have := ad_mu_pos hg; omega
  | succ n ih =>
    intro m g hg h1 h2
    cases m with
    | zero => have := ad_mu_pos hg; omega
    | succ m =>
      rw [ad_okN, ad_okN]
      by_cases e : g = 0
      · rw [if_pos e, if_pos e]
      · rw [if_neg e, if_neg e]
        by_cases c : ad_cr A g (ad_lo g 8) = g
        · rw [if_pos c, if_pos c]
        · rw [if_neg c, if_neg c]
          refine ad_all_c (fun x hx => ?_)
          have d := ad_ps_dec (s := s) hg e c
          have d2 := ad_M_mem hx
          exact ih m x (ad_ps_lt 8 g x hx) (by omega) (by omega)
def ad_OK (A : Nat → Nat) (s g : Nat) : Bool := ad_okN A s 16 g
theorem ad_OK0 (A : Nat → Nat) (s : Nat) : ad_OK A s 0 = true := by unfold ad_OK; rw [ad_okN, if_pos rfl]
theorem ad_OK1 {A : Nat → Nat} {s g : Nat} (h : g ≠ 0) (hc : ad_cr A g (ad_lo g 8) = g) : ad_OK A s g = ad_fl A (s &&& g) g := by
  unfold ad_OK; rw [ad_okN, if_neg h, if_pos hc]
theorem ad_OK2 {A : Nat → Nat} {s g : Nat} (hg : g < 256) (h : g ≠ 0) (hc : ¬ ad_cr A g (ad_lo g 8) = g) : ad_OK A s g = (ad_ps A s g 8 g).all (ad_OK A s) := by
  have e : ad_OK A s g = (ad_ps A s g 8 g).all (ad_okN A s 15) := by
    unfold ad_OK; rw [ad_okN, if_neg h, if_neg hc]
  rw [e]
  refine ad_all_c (fun x hx => ?_)
  have hx2 := ad_ps_lt 8 g x hx
  have := ad_mu15 x
  exact ad_okN_s 15 16 x hx2 (by omega) (by omega)
def ad_f11 (p : Nat) (A : Nat → Nat) (s : Nat) : Bool := ad_f0 p A s && ad_OK A s p
/-! stacks -/
def ad_st (f : Nat → Int32) (L : List Nat) : Prop := ∀ i g, L[i]? = some g → f i = nI g
theorem ad_st_push {f : Nat → Int32} {L : List Nat} (h : ad_st f L) (c : Nat) : ad_st (upd f L.length (nI c)) (L ++ [c]) := by
  intro i g hg
  by_cases e : i < L.length
  · rw [List.getElem?_append_left e] at hg
    rw [pk_un (by omega)]
    exact h i g hg
  · rw [List.getElem?_append_right (by omega)] at hg
    by_cases e2 : i = L.length
    · subst e2
      rw [pk_us]
      rw [Nat.sub_self] at hg
      have : c = g := by simpa using hg
      rw [this]
    · have : 0 < i - L.length := by omega
      obtain ⟨m, hm⟩ : ∃ m, i - L.length = m + 1 := ⟨i - L.length - 1, by omega⟩
      rw [hm] at hg
      simp at hg
theorem ad_st_pop {f : Nat → Int32} {L : List Nat} {g : Nat} (h : ad_st f (L ++ [g])) : f L.length = nI g ∧ ad_st f L := by
  constructor
  · exact h L.length g (by rw [List.getElem?_append_right (Nat.le_refl _), Nat.sub_self]; rfl)
  · intro i x hx
    have hi : i < L.length := by
      rcases Nat.lt_or_ge i L.length with z | z
      · exact z
      · rw [List.getElem?_eq_none z] at hx; exact absurd hx (by simp)
    exact h i x (by rw [List.getElem?_append_left hi]; exact hx)
theorem ad_st_nil (f : Nat → Int32) : ad_st f [] := by
  intro i g hg; simp at hg
theorem ad_snoc (L : List Nat) : L = [] ∨ ∃ K g, L = K ++ [g] := by
  rcases List.eq_nil_or_concat L with h | ⟨K, g, h⟩
  · exact Or.inl h
  · exact Or.inr ⟨K, g, by rw [h]; simp⟩
end
section
/-! the component's methods that only read -/
def ad_XG (p : Nat) (A : Nat → Nat) (xa xb : Nat → Int32) (hv : Nat → Int64) : Prop := ad_ok p A ∧ (∀ j, j < 8 → xa j = nI (A j)) ∧ (∀ j, j < 8 → xb j = nI (ad_ak A j)) ∧ (∀ a, a < 8 → ∀ s, s < 256 → ad_xf hv (4 * a) s = s.testBit a)
theorem ad_c4 {k w : Nat} (h : 4 * k + w < 4096) : (4 * nI k + nI w).toNatClampNeg = 4 * k + w := by rw [ad_i4, ad_c h]
theorem ad_in4 {k w N : Nat} (h : 4 * k + w < N) (hN : N < 4096) : vp_in (4 * nI k + nI w) N := by rw [ad_i4]; exact ad_in h hN
theorem ad_ca {o w : Nat} (h : o + w < 4096) : (nI o + nI w).toNatClampNeg = o + w := by rw [nI_add, ad_c h]
theorem ad_ina {o w N : Nat} (h : o + w < N) (hN : N < 4096) : vp_in (nI o + nI w) N := by rw [nI_add]; exact ad_in h hN
section XS
variable {p : Nat} {A : Nat → Nat} {kn gc : Int32} {xa xb : Nat → Int32} {hv fm wk ot rf : Nat → Int64} {gr ct : Nat → Int32}
theorem ad_hvw (G : ad_XG p A xa xb hv) {a w j : Nat} (ha : a < 8) (hw : w < 4) (hj : j < 64) : ad_w (hv (4 * a + w)) j = (64 * w + j).testBit a := by
  rw [ad_xfw hj]; exact G.2.2.2 a ha _ (by omega)
theorem ad_xaf (G : ad_XG p A xa xb hv) {post : Int32 → Prop} {x : Int32} {s : Nat} (hx : x = nI s) (hs : s < 256) (h : post (nI (ad_hit A s))) : wpX_attackedFrom post ((nI p), kn, gc, xa, xb, hv, fm, wk, ot, rf, gr, ct) x := by
  subst hx
  show ∃ n4 : Nat, wX_attackedFrom_4 post (nI s) (nI p) kn gc xa xb hv fm wk ot rf gr ct n4 0 0
  refine loop_0 (fun n i c => wX_attackedFrom_4 post (nI s) (nI p) kn gc xa xb hv fm wk ot rf gr ct n c (nI i)) (fun i c => c = nI (ad_ht A s i)) 8 0 nI_0.symm ?_ ?_
  · intro n c hc
    exact br_t ad_g8 (by rw [hc]; exact h)
  · intro n i c hi hc K
    refine br_f (ad_l8 hi) (ad_xb rfl rfl hs (by omega) (fun hb => ?_) (fun hb => ?_))
    · exact nm_r (nI_1 i) (K c (by rw [hc, ad_ht_f hb]))
    · refine ⟨ad_in hi (by decide), nm_e (nm_r (nI_1 i) (K _ ?_))⟩
      show c ||| xa (nI i).toNatClampNeg = nI (ad_ht A s (i + 1))
      rw [ad_cA G.2.1 hi (by decide), hc, ad_or, ad_ht_t hb]
theorem ad_xdb (G : ad_XG p A xa xb hv) {post : Int32 → Prop} {x : Int32} {s : Nat} (hx : x = nI s) (hs : s < 256) (h : post (nI (ad_dd p A s))) : wpX_defendedBy post ((nI p), kn, gc, xa, xb, hv, fm, wk, ot, rf, gr, ct) x := by
  subst hx
  show wpX_attackedFrom (fun r_1 => ∃ n11 : Nat, wX_defendedBy_11 post r_1 (nI p) kn gc xa xb hv fm wk ot rf gr ct n11 0 0) ((nI p), kn, gc, xa, xb, hv, fm, wk, ot, rf, gr, ct) (nI s)
  refine ad_xaf G rfl hs ?_
  refine loop_0 (fun n i c => wX_defendedBy_11 post (nI (ad_hit A s)) (nI p) kn gc xa xb hv fm wk ot rf gr ct n c (nI i)) (fun i c => c = nI (ad_mk (ad_ddf p A s) i)) 8 0 nI_0.symm ?_ ?_
  · intro n c hc
    exact br_t ad_g8 (by rw [hc]; exact h)
  · intro n i c hi hc K
    refine br_f (ad_l8 hi) (ad_xb rfl rfl G.1.1 (by omega) (fun hb => ?_) (fun hb => ?_))
    · exact nm_r (nI_1 i) (K c (by rw [hc, ad_mk_f (f := ad_ddf p A s) (n := i) (by unfold ad_ddf; rw [hb]; rfl)]))
    · refine ⟨ad_in hi (by decide), ad_e0 (s := ad_df (ad_ak A i) (ad_hit A s)) (by rw [ad_cA G.2.2.1 hi (by decide), ad_dfI]) (ad_df_lt _ (ad_ak_lt A i)) (fun z => ?_) (fun z => ?_)⟩
      · refine nm_e (nm_r (nI_1 i) (K _ ?_))
        show c ||| ((1 : Int32) <<< (nI i &&& 31)) = _
        rw [ad_pw (by omega), hc, ad_or, ad_mk_t (f := ad_ddf p A s) (n := i) (by unfold ad_ddf; rw [hb, decide_eq_true z]; rfl)]
      · exact nm_r (nI_1 i) (K c (by rw [hc, ad_mk_f (f := ad_ddf p A s) (n := i) (by unfold ad_ddf; rw [hb, decide_eq_false z]; rfl)]))
theorem ad_xth {post : Int32 → Prop} {x : Int32} (hp : p < 256) (h0 : (∀ a, a < 8 → x ≠ nI a) → post 0) (h1 : ∀ a, a < 8 → x = nI a → post (ad_bI (p.testBit a))) : wpX_isThere post ((nI p), kn, gc, xa, xb, hv, fm, wk, ot, rf, gr, ct) x := by
  show ((x < 0 → (post 0)) ∧ (¬ x < 0 → (((8 ≤ x → (post 0)) ∧ (¬ 8 ≤ x → (wpX_isIn (fun r_3 => (((r_3 = 0 → (post 0)) ∧ (¬ r_3 = 0 → (post 1))))) ((nI p), kn, gc, xa, xb, hv, fm, wk, ot, rf, gr, ct) (nI p) x))))))
  refine br_c (fun z => h0 (fun a ha e => ?_)) (fun z => ?_)
  · rw [e] at z; exact absurd z (nI_pos (by omega))
  · obtain ⟨j, hj, rfl⟩ := nI_of z
    refine pk_le 8 j (fun y => h0 (fun a ha e => ?_)) (fun y => ?_)
    · rw [nI_eq (by omega) (by omega)] at e; omega
    · refine ad_xb rfl rfl hp (by omega) (fun hb => ?_) (fun hb => ?_)
      · have := h1 j y rfl; rw [hb] at this; exact this
      · have := h1 j y rfl; rw [hb] at this; exact this
theorem ad_xse {post : Int32 → Prop} {x : Int32} (h0 : (∀ k, k < 12 → x ≠ nI k) → post 0) (h1 : ∀ k, k < 12 → x = nI k → post 1) : wpX_isSense post ((nI p), kn, gc, xa, xb, hv, fm, wk, ot, rf, gr, ct) x := by
  show ((x < 0 → (post 0)) ∧ (¬ x < 0 → (((11 < x → (post 0)) ∧ (¬ 11 < x → (post 1))))))
  refine br_c (fun z => h0 (fun a ha e => ?_)) (fun z => ?_)
  · rw [e] at z; exact absurd z (nI_pos (by omega))
  · obtain ⟨j, hj, rfl⟩ := nI_of z
    refine pk_lt 11 j (fun y => h0 (fun a ha e => ?_)) (fun y => h1 j (by omega) rfl)
    rw [nI_eq (by omega) (by omega)] at e; omega
theorem ad_xif {post : Int32 → Prop} {x y : Int32} {k s : Nat} (hx : x = nI k) (hy : y = nI s) (hk : k < 12) (hs : s < 256) (h : post (ad_bI (ad_xf fm (4 * k) s))) : wpX_isInFamily post ((nI p), kn, gc, xa, xb, hv, fm, wk, ot, rf, gr, ct) x y := by
  subst hx hy
  unfold wpX_isInFamily
  dsimp only
  rw [ad_s6 hs, ad_i4, ad_c (by omega), ad_ush hs]
  refine ⟨ad_in (by omega) (by decide), ?_⟩
  show ((ad_xf fm (4 * k) s = false → _) ∧ (¬ ad_xf fm (4 * k) s = false → _))
  cases hb : ad_xf fm (4 * k) s <;> rw [hb] at h
  · exact br_t rfl h
  · exact br_f (by decide) h
theorem ad_xifb {P Q : Prop} {x y : Int32} {k s : Nat} (hx : x = nI k) (hy : y = nI s) (hk : k < 12) (hs : s < 256) (h0 : ad_xf fm (4 * k) s = false → P) (h1 : ad_xf fm (4 * k) s = true → Q) : wpX_isInFamily (fun r => (r = 0 → P) ∧ (¬ r = 0 → Q)) ((nI p), kn, gc, xa, xb, hv, fm, wk, ot, rf, gr, ct) x y :=
  ad_xif hx hy hk hs (ad_bb rfl h0 h1)
theorem ad_xhi (G : ad_XG p A xa xb hv) {post : Int64 → Prop} {x y : Int32} {s w : Nat} (hx : x = nI s) (hy : y = nI w) (hs : s < 256) (hw : w < 4) (h : ∀ r : Int64, (∀ j, j < 64 → ad_w r j = ad_hb s (64 * w + j)) → post r) : wpX_hitting post ((nI p), kn, gc, xa, xb, hv, fm, wk, ot, rf, gr, ct) x y := by
  subst hx hy
  show ∃ n5 : Nat, wX_hitting_5 post (nI s) (nI w) (nI p) kn gc xa xb hv fm wk ot rf gr ct n5 0 0
  refine loop_0 (fun n i c => wX_hitting_5 post (nI s) (nI w) (nI p) kn gc xa xb hv fm wk ot rf gr ct n c (nI i)) (fun i c => ∀ j, j < 64 → ad_w c j = ad_an (fun a => s.testBit a && (64 * w + j).testBit a) i) 8 0 (fun j _ => ad_w_0 j) ?_ ?_
  · intro n c hc
    exact br_t ad_g8 (h c hc)
  · intro n i c hi hc K
    refine br_f (ad_l8 hi) (ad_xb rfl rfl hs (by omega) (fun hb => ?_) (fun hb => ?_))
    · exact nm_r (nI_1 i) (K c (fun j hj => by rw [hc j hj, ad_an]; simp only [hb, Bool.false_and, Bool.or_false]))
    · refine ⟨ad_in4 (by omega) (by decide), nm_e (nm_r (nI_1 i) (K _ (fun j hj => ?_)))⟩
      rw [ad_c4 (by omega), ad_w_or, hc j hj, ad_hvw G hi hw hj, ad_an]
      simp only [hb, Bool.true_and]
theorem ad_xde (G : ad_XG p A xa xb hv) {post : Int64 → Prop} {x y : Int32} {a w : Nat} (hx : x = nI a) (hy : y = nI w) (ha : a < 8) (hw : w < 4) (h : ∀ r : Int64, (∀ j, j < 64 → ad_w r j = ad_dn A a (64 * w + j)) → post r) : wpX_defending post ((nI p), kn, gc, xa, xb, hv, fm, wk, ot, rf, gr, ct) x y := by
  subst hx hy
  show ∃ n7 : Nat, wX_defending_7 post (nI a) (nI w) (nI p) kn gc xa xb hv fm wk ot rf gr ct n7 (-1) 0
  refine loop_0 (fun n i c => wX_defending_7 post (nI a) (nI w) (nI p) kn gc xa xb hv fm wk ot rf gr ct n c (nI i)) (fun i c => ∀ j, j < 64 → ad_w c j = ad_al (ad_dnf A a (64 * w + j)) i) 8 (-1) (fun j hj => ad_w_m1 hj) ?_ ?_
  · intro n c hc
    exact br_t ad_g8 (h c hc)
  · intro n i c hi hc K
    refine br_f (ad_l8 hi) ⟨ad_in ha (by decide), ad_xb (ad_cA G.2.2.1 ha (by decide)) rfl (ad_ak_lt A a) (by omega) (fun hb => ?_) (fun hb => ?_)⟩
    · refine nm_r (nI_1 i) (K c (fun j hj => ?_))
      rw [hc j hj, ad_al]; unfold ad_dnf; rw [hb, Bool.not_false, Bool.true_or, Bool.and_true]
    · refine ⟨ad_in hi (by decide), ad_xhi G (ad_cA G.2.2.1 hi (by decide)) rfl (ad_ak_lt A i) hw (fun r hr => ?_)⟩
      refine nm_e (nm_r (nI_1 i) (K _ (fun j hj => ?_)))
      rw [ad_w_and, hc j hj, hr j hj, ad_al]; unfold ad_dnf; rw [hb, Bool.not_true, Bool.false_or]
theorem ad_me0 {f g : Int64} (h : (f &&& g) = 0) {j : Nat} : (ad_w f j && ad_w g j) = false := by rw [← ad_w_and, h, ad_w_0]
theorem ad_xme (G : ad_XG p A xa xb hv) {post : Int32 → Prop} {x y : Int32} {z : Int64} {k a : Nat} {t : Bool} (hx : x = nI k) (hy : y = nI a) (hz : ∀ j, j < 64 → ad_w z j = t) (hk : k < 12) (ha : a < 8) (h : post (ad_bI (ad_an (fun s => ad_xf fm (4 * k) s && (s.testBit a ^^ t)) 256))) : wpX_meets post ((nI p), kn, gc, xa, xb, hv, fm, wk, ot, rf, gr, ct) x y z := by
  subst hx hy
  show ∃ n3 : Nat, wX_meets_3 post (nI k) (nI a) z (nI p) kn gc xa xb hv fm wk ot rf gr ct n3 0
  refine loop_0 (fun n i (_ : Unit) => wX_meets_3 post (nI k) (nI a) z (nI p) kn gc xa xb hv fm wk ot rf gr ct n (nI i)) (fun i _ => ∀ s, s < 64 * i → (ad_xf fm (4 * k) s && (s.testBit a ^^ t)) = false) 4 () (fun s hs => by omega) ?_ ?_
  · intro n c hc
    rw [ad_an_no.mpr (fun s hs => hc s (by omega))] at h
    exact br_t ad_g4 h
  · intro n i c hi hc K
    have key : ∀ j, j < 64 → (ad_w (fm (4 * k + i)) j && ad_w (hv (4 * a + i) ^^^ z) j) = (ad_xf fm (4 * k) (64 * i + j) && ((64 * i + j).testBit a ^^ t)) := by
      intro j hj
      rw [ad_xfw hj, ad_w_xor, ad_hvw G ha hi hj, hz j hj]
    refine br_f (ad_l4 hi) ⟨ad_in4 (by omega) (by decide), ad_in4 (by omega) (by decide), ?_⟩
    rw [ad_c4 (by omega), ad_c4 (by omega)]
    refine br_c (fun e => ?_) (fun e => ?_)
    · refine nm_r (nI_1 i) (K () (fun s hs => ?_))
      rcases Nat.lt_or_ge s (64 * i) with q | q
      · exact hc s q
      · have e2 := key (s - 64 * i) (by omega)
        rw [ad_me0 e, show 64 * i + (s - 64 * i) = s by omega] at e2
        exact e2.symm
    · obtain ⟨j, hj, e2⟩ := ad_w_nz e
      rw [ad_w_and, key j hj] at e2
      rw [ad_an_iff.mpr ⟨64 * i + j, by omega, e2⟩] at h
      exact h
def ad_mi (f : Nat → Bool) (a : Nat) : Bool := ad_an (fun s => f s && !s.testBit a) 256
theorem ad_cmX {p : Nat} {f : Nat → Bool} (hp : p < 256) : ∀ n, n ≤ 8 → ∀ c, c = ad_df p (ad_mk (ad_mi f) n) → n = 8 → c = ad_cm p f 256 := by
  intro n _ c hc hn
  subst hn hc
  refine ad_ext (ad_df_lt _ hp) (ad_cm_lt _ hp _) (fun i hi => ?_)
  rw [ad_df_bit (by omega), ad_mk8 _ hi, ad_cm_bit]
  congr 1
  unfold ad_mi
  rw [Bool.eq_iff_iff, Bool.not_eq_true', ad_an_no, ad_al_iff]
  constructor
  · intro h s hs
    have := h s hs
    revert this; cases f s <;> cases s.testBit i <;> decide
  · intro h s hs
    have := h s hs
    revert this; cases f s <;> cases s.testBit i <;> decide
theorem ad_df2 {p q r : Nat} (hp : p < 256) : ad_df (ad_df p q) r = ad_df p (q ||| r) := by
  refine ad_ext (ad_df_lt _ (ad_df_lt _ hp)) (ad_df_lt _ hp) (fun i hi => ?_)
  rw [ad_df_bit (by omega), ad_df_bit (by omega), ad_df_bit (by omega), Nat.testBit_or]
  cases p.testBit i <;> cases q.testBit i <;> cases r.testBit i <;> decide
theorem ad_df_0 {p : Nat} (hp : p < 256) : ad_df p 0 = p := by
  refine ad_ext (ad_df_lt _ hp) hp (fun i hi => ?_)
  rw [ad_df_bit (by omega), Nat.zero_testBit]; simp
theorem ad_xco (G : ad_XG p A xa xb hv) {post : Int32 → Prop} {x : Int32} {k : Nat} (hx : x = nI k) (hk : k < 12) (h : post (nI (ad_cm p (ad_xf fm (4 * k)) 256))) : wpX_commonOf post ((nI p), kn, gc, xa, xb, hv, fm, wk, ot, rf, gr, ct) x := by
  subst hx
  have hp := G.1.1
  show ∃ n7 : Nat, wX_commonOf_7 post (nI k) (nI p) kn gc xa xb hv fm wk ot rf gr ct n7 (nI p) 0
  refine loop_0 (fun n i c => wX_commonOf_7 post (nI k) (nI p) kn gc xa xb hv fm wk ot rf gr ct n c (nI i)) (fun i c => c = nI (ad_df p (ad_mk (ad_mi (ad_xf fm (4 * k))) i))) 8 (nI p) (by rw [ad_mk, ad_df_0 hp]) ?_ ?_
  · intro n c hc
    rw [ad_cmX hp 8 (Nat.le_refl 8) _ rfl rfl] at hc
    exact br_t ad_g8 (by rw [hc]; exact h)
  · intro n i c hi hc K
    refine br_f (ad_l8 hi) (ad_xme (t := true) G rfl rfl (fun j hj => ad_w_m1 hj) hk hi ?_)
    have e : ad_an (fun s => ad_xf fm (4 * k) s && (s.testBit i ^^ true)) 256 = ad_mi (ad_xf fm (4 * k)) i := by
      unfold ad_mi; simp only [Bool.xor_true]
    rw [e]
    refine ad_bb rfl (fun z => ?_) (fun z => ?_)
    · exact nm_r (nI_1 i) (K c (by rw [hc, ad_mk_f z]))
    · refine nm_e (nm_r (nI_1 i) (K _ ?_))
      show c &&& (((1 : Int32) <<< (nI i &&& 31)) ^^^ (-1)) = _
      rw [ad_pw (by omega), hc, ad_dfI, ad_df2 hp, ad_mk_t z]
theorem ad_wsh (x : Int64) {k j : Nat} (hk : k < 64) : ad_w ((x.toUInt64 >>> ((nI k).toInt64.toUInt64 &&& Int64.toUInt64 63)).toInt64) j = ad_w x (k + j) := by
  rw [wb_cu k hk]
  have e : (x.toUInt64 >>> UInt64.ofNat k).toInt64.toBitVec = x.toBitVec >>> k := by
    apply BitVec.eq_of_toNat_eq
    show (x.toUInt64 >>> UInt64.ofNat k).toNat = _
    have h1 : (UInt64.ofNat k).toNat = k := by
      show (BitVec.ofNat 64 k).toNat = k
      rw [BitVec.toNat_ofNat, Nat.mod_eq_of_lt (by omega)]
    rw [UInt64.toNat_shiftRight, h1, Nat.mod_eq_of_lt hk, BitVec.toNat_ushiftRight]
    rfl
  unfold ad_w
  rw [e, BitVec.getLsbD_ushiftRight]
theorem ad_big : ∀ w, w < 4 → ∀ j, j < 64 → ∀ a, a < 6 → 64 ≤ 2 ^ a + j → (64 * w + j).testBit a = true := by decide +kernel
theorem ad_b6 : ∀ w, w < 4 → ∀ j, j < 64 → (64 * w + j).testBit 6 = decide (w % 2 = 1) ∧ (64 * w + j).testBit 7 = decide (2 ≤ w) := by decide +kernel
theorem ad_p64 : ∀ a, a < 6 → 2 ^ a < 64 := by decide
theorem ad_xbe (G : ad_XG p A xa xb hv) {post : Int64 → Prop} {x y : Int32} {a w : Nat} (hx : x = nI a) (hy : y = nI w) (ha : a < 8) (hw : w < 4) (h : ∀ r : Int64, (∀ j, j < 64 → ad_w r j = ad_be (ad_xf ot 0) a (64 * w + j)) → post r) : wpX_below post ((nI p), kn, gc, xa, xb, hv, fm, wk, ot, rf, gr, ct) x y := by
  subst hx hy
  show ((6 ≤ nI a → (((nI a = 6 → (wX_below_39 post (nI w) 1 (nI p) kn gc xa xb hv fm wk ot rf gr ct)) ∧ (¬ nI a = 6 → (wX_below_39 post (nI w) 2 (nI p) kn gc xa xb hv fm wk ot rf gr ct))))) ∧ (¬ 6 ≤ nI a → (vp_in (nI w) 4 ∧ (vp_in ((4 * nI a) + nI w) 32 ∧ (post ((((ot (nI w).toNatClampNeg) &&& (hv ((4 * nI a) + nI w).toNatClampNeg)).toUInt64 >>> (((1 : Int32) <<< (nI a &&& 31)).toInt64.toUInt64 &&& Int64.toUInt64 63)).toInt64))))))
  refine pk_le 6 a (fun q => ?_) (fun q => ⟨ad_in hw (by decide), ad_in4 (by omega) (by decide), h _ (fun j hj => ?_)⟩)
  · refine pk_eq a 6 (fun e => ?_) (fun e => ?_)
    · subst e
      unfold wX_below_39
      have hc : w = 0 ∨ w = 1 ∨ w = 2 ∨ w = 3 := by omega
      rcases hc with c | c | c | c <;> subst c
      · refine br_t (by decide) ⟨vp_in_iff.mpr (by decide), h _ (fun j hj => ?_)⟩
        show ad_w (ot 1) j = _
        unfold ad_be
        rw [(ad_b6 0 (by decide) j hj).1, show ad_w (ot 1) j = ad_w (ot (0 + 1)) j from rfl, ad_xfw hj, show 64 * 1 + j = 64 * 0 + j + 2 ^ 6 by omega]; rfl
      · refine br_f (by decide) (h _ (fun j hj => ?_))
        unfold ad_be
        rw [ad_w_0, (ad_b6 1 (by decide) j hj).1]; rfl
      · refine br_t (by decide) ⟨vp_in_iff.mpr (by decide), h _ (fun j hj => ?_)⟩
        show ad_w (ot 3) j = _
        unfold ad_be
        rw [(ad_b6 2 (by decide) j hj).1, show ad_w (ot 3) j = ad_w (ot (0 + 3)) j from rfl, ad_xfw hj, show 64 * 3 + j = 64 * 2 + j + 2 ^ 6 by omega]; rfl
      · refine br_f (by decide) (h _ (fun j hj => ?_))
        unfold ad_be
        rw [ad_w_0, (ad_b6 3 (by decide) j hj).1]; rfl
    · have e7 : a = 7 := by omega
      subst e7
      unfold wX_below_39
      have hc : w = 0 ∨ w = 1 ∨ w = 2 ∨ w = 3 := by omega
      rcases hc with c | c | c | c <;> subst c
      · refine br_t (by decide) ⟨vp_in_iff.mpr (by decide), h _ (fun j hj => ?_)⟩
        show ad_w (ot 2) j = _
        unfold ad_be
        rw [(ad_b6 0 (by decide) j hj).2, show ad_w (ot 2) j = ad_w (ot (0 + 2)) j from rfl, ad_xfw hj, show 64 * 2 + j = 64 * 0 + j + 2 ^ 7 by omega]; rfl
      · refine br_t (by decide) ⟨vp_in_iff.mpr (by decide), h _ (fun j hj => ?_)⟩
        show ad_w (ot 3) j = _
        unfold ad_be
        rw [(ad_b6 1 (by decide) j hj).2, show ad_w (ot 3) j = ad_w (ot (0 + 3)) j from rfl, ad_xfw hj, show 64 * 3 + j = 64 * 1 + j + 2 ^ 7 by omega]; rfl
      · refine br_f (by decide) (h _ (fun j hj => ?_))
        unfold ad_be
        rw [ad_w_0, (ad_b6 2 (by decide) j hj).2]; rfl
      · refine br_f (by decide) (h _ (fun j hj => ?_))
        unfold ad_be
        rw [ad_w_0, (ad_b6 3 (by decide) j hj).2]; rfl
  · rw [ad_pw (by omega), ad_wsh _ (ad_p64 a q), ad_c (by omega), ad_c4 (by omega), ad_w_and]
    unfold ad_be
    rcases Nat.lt_or_ge (2 ^ a + j) 64 with c | c
    · rw [ad_hvw G ha hw c, show ad_w (ot w) (2 ^ a + j) = ad_w (ot (0 + w)) (2 ^ a + j) by rw [Nat.zero_add], ad_xfw c, show 64 * w + (2 ^ a + j) = 2 ^ a + (64 * w + j) by omega, Nat.testBit_two_pow_add_eq, Bool.and_comm, Nat.add_comm (2 ^ a)]
    · rw [ad_big w hw j hj a q c, Bool.not_true, Bool.false_and]
      have : ad_w (ot w) (2 ^ a + j) = false := BitVec.getLsbD_of_ge _ _ c
      rw [this, Bool.false_and]
end XS
end
section
/-! the component's first families, word by word -/
/-- words o .. o + w - 1 are filled by F, the words outside o .. o + 3 are as before -/
def ad_FI (F : Nat → Bool) (o : Nat) (fm : Nat → Int64) (w : Nat) (f : Nat → Int64) : Prop := (∀ s, s < 64 * w → ad_xf f o s = F s) ∧ (∀ i, (i < o ∨ o + 4 ≤ i) → f i = fm i)
theorem ad_FI0 (F : Nat → Bool) (o : Nat) (fm : Nat → Int64) : ad_FI F o fm 0 fm := ⟨fun s hs => by omega, fun _ _ => rfl⟩
theorem ad_FIs {F : Nat → Bool} {o w : Nat} {fm f : Nat → Int64} {c : Int64} (h : ad_FI F o fm w f) (hw : w < 4) (hc : ∀ j, j < 64 → ad_w c j = F (64 * w + j)) : ad_FI F o fm (w + 1) (vp_updL f (o + w) c) := by
  constructor
  · intro s hs
    rcases Nat.lt_or_ge s (64 * w) with q | q
    · rw [← h.1 s q]
      unfold ad_xf
      rw [pk_uLn (by omega)]
    · have e : s / 64 = w := by omega
      unfold ad_xf
      rw [e, pk_uLs, hc _ (Nat.mod_lt _ (by decide))]
      congr 1; omega
  · intro i hi
    rw [pk_uLn (by omega)]; exact h.2 i hi
/-- family k is F, the other families are as before -/
def ad_P (k : Nat) (F : Nat → Bool) (fm f : Nat → Int64) : Prop := (∀ s, s < 256 → ad_xf f (4 * k) s = F s) ∧ (∀ m, m < 12 → m ≠ k → ∀ s, s < 256 → ad_xf f (4 * m) s = ad_xf fm (4 * m) s)
theorem ad_FIP {F : Nat → Bool} {k : Nat} {fm f : Nat → Int64} (h : ad_FI F (4 * k) fm 4 f) : ad_P k F fm f := by
  refine ⟨fun s hs => h.1 s (by omega), fun m _ hk s hs => ?_⟩
  unfold ad_xf
  rw [h.2 _ (by omega)]
section XF
variable {p : Nat} {A : Nat → Nat} {kn gc : Int32} {xa xb : Nat → Int32} {hv fm wk ot rf : Nat → Int64} {gr ct : Nat → Int32}
theorem ad_sf30 (G : ad_XG p A xa xb hv) {post : SX → Prop} {J : Int32 → (Nat → Int32) → (Nat → Int32) → (Nat → Int64) → (Nat → Int64) → (Nat → Int64) → (Nat → Int64) → (Nat → Int64) → (Nat → Int32) → (Nat → Int32) → Prop} {w : Nat} (hw : w < 4) {c0 : Int64} (h0 : ∀ j, j < 64 → ad_w c0 j = !ad_hb (ad_df 255 p) (64 * w + j))
    (h : ∀ c : Int64, (∀ j, j < 64 → ad_w c j = ad_f0 p A (64 * w + j)) → J (nI (w + 1)) xa xb hv (vp_updL fm w c) wk ot rf gr ct) : ∃ n, wX_startFree_30 post J (nI w) (nI p) kn gc xa xb hv fm wk ot rf gr ct n c0 0 := by
  refine loop_0 (fun n i c => wX_startFree_30 post J (nI w) (nI p) kn gc xa xb hv fm wk ot rf gr ct n c (nI i)) (fun i c => ∀ j, j < 64 → ad_w c j = (!ad_hb (ad_df 255 p) (64 * w + j) && ad_al (fun a => !((64 * w + j).testBit a && ad_hb (A a) (64 * w + j))) i)) 8 c0 (fun j hj => by rw [h0 j hj, ad_al, Bool.and_true]) ?_ ?_
  · intro n c hc
    refine br_t ad_g8 ⟨ad_in (by omega) (by decide), nm_e (nm_r (nI_1 w) ?_)⟩
    rw [ad_c (by omega)]
    exact h c (fun j hj => by rw [hc j hj, ad_x0 (by omega) G.1.2.1])
  · intro n i c hi hc K
    refine br_f (ad_l8 hi) ⟨ad_in4 (by omega) (by decide), ad_in hi (by decide), ad_xhi G (ad_cA G.2.1 hi (by decide)) rfl (G.1.2.1 i hi) hw (fun r hr => ?_)⟩
    refine nm_e (nm_r (nI_1 i) (K _ (fun j hj => ?_)))
    rw [ad_w_and, ad_w_not _ hj, ad_w_and, ad_c4 (by omega), hc j hj, ad_hvw G hi hw hj, hr j hj, ad_al, Bool.and_assoc]
theorem ad_df255 (p : Nat) : (255 : Int32) &&& (nI p ^^^ (-1)) = nI (ad_df 255 p) := ad_dfI 255 p
theorem ad_xsf (G : ad_XG p A xa xb hv) {post : SX → Prop} (h : ∀ f, ad_P 0 (ad_f0 p A) fm f → post ((nI p), kn, gc, xa, xb, hv, f, wk, ot, rf, gr, ct)) : wpX_startFree post ((nI p), kn, gc, xa, xb, hv, fm, wk, ot, rf, gr, ct) := by
  show ∃ n2 : Nat, wX_startFree_2 post (nI p) kn gc n2 0 xa xb hv fm wk ot rf gr ct
  refine loop_0 (fun n i f => wX_startFree_2 post (nI p) kn gc n (nI i) xa xb hv f wk ot rf gr ct) (fun i f => ad_FI (ad_f0 p A) 0 fm i f) 4 fm (ad_FI0 _ _ _) ?_ ?_
  · intro n f hf
    exact br_t ad_g4 (h f (ad_FIP (k := 0) hf))
  · intro n w f hw hf K
    refine br_f (ad_l4 hw) (ad_xhi G (ad_df255 p) rfl (ad_df_lt p (by decide)) hw (fun r hr => nm_e ?_))
    refine ad_sf30 G hw (fun j hj => by rw [ad_w_not _ hj, hr j hj]) (fun c hc => K _ ?_)
    have e := ad_FIs hf hw hc
    rw [Nat.zero_add] at e
    exact e
theorem ad_sa17 (G : ad_XG p A xa xb hv) {post : SX → Prop} {J : Int32 → (Nat → Int32) → (Nat → Int32) → (Nat → Int64) → (Nat → Int64) → (Nat → Int64) → (Nat → Int64) → (Nat → Int64) → (Nat → Int32) → (Nat → Int32) → Prop} {w : Nat} (hw : w < 4) {c0 : Int64} (h0 : ∀ j, j < 64 → ad_w c0 j = ad_f0 p A (64 * w + j))
    (h : ∀ c : Int64, (∀ j, j < 64 → ad_w c j = ad_f1 p A (64 * w + j)) → J (nI (w + 1)) xa xb hv (vp_updL fm (4 + w) c) wk ot rf gr ct) : ∃ n, wX_startAdmissible_17 post J (nI w) (nI p) kn gc xa xb hv fm wk ot rf gr ct n c0 0 := by
  refine loop_0 (fun n i c => wX_startAdmissible_17 post J (nI w) (nI p) kn gc xa xb hv fm wk ot rf gr ct n c (nI i)) (fun i c => ∀ j, j < 64 → ad_w c j = (ad_f0 p A (64 * w + j) && ad_al (fun a => !(64 * w + j).testBit a || ad_dn A a (64 * w + j)) i)) 8 c0 (fun j hj => by rw [h0 j hj, ad_al, Bool.and_true]) ?_ ?_
  · intro n c hc
    refine br_t ad_g8 ⟨ad_ina (o := 4) (by omega) (by decide), nm_e (nm_r (nI_1 w) ?_)⟩
    rw [show (4 + nI w).toNatClampNeg = 4 + w from ad_ca (o := 4) (by omega)]
    exact h c (fun j hj => by rw [hc j hj, ad_x1 (by omega) G.1.2.1])
  · intro n i c hi hc K
    refine br_f (ad_l8 hi) ⟨ad_in4 (by omega) (by decide), ad_xde G rfl rfl hi hw (fun r hr => ?_)⟩
    refine nm_e (nm_r (nI_1 i) (K _ (fun j hj => ?_)))
    rw [ad_w_and, ad_w_or, ad_w_not _ hj, ad_c4 (by omega), hc j hj, ad_hvw G hi hw hj, hr j hj, ad_al, Bool.and_assoc]
theorem ad_xsa (G : ad_XG p A xa xb hv) {post : SX → Prop} (h0 : ∀ s, s < 256 → ad_xf fm 0 s = ad_f0 p A s) (h : ∀ f, ad_P 1 (ad_f1 p A) fm f → post ((nI p), kn, gc, xa, xb, hv, f, wk, ot, rf, gr, ct)) : wpX_startAdmissible post ((nI p), kn, gc, xa, xb, hv, fm, wk, ot, rf, gr, ct) := by
  show ∃ n2 : Nat, wX_startAdmissible_2 post (nI p) kn gc n2 0 xa xb hv fm wk ot rf gr ct
  refine loop_0 (fun n i f => wX_startAdmissible_2 post (nI p) kn gc n (nI i) xa xb hv f wk ot rf gr ct) (fun i f => ad_FI (ad_f1 p A) 4 fm i f) 4 fm (ad_FI0 _ _ _) ?_ ?_
  · intro n f hf
    exact br_t ad_g4 (h f (ad_FIP (k := 1) hf))
  · intro n w f hw hf K
    refine br_f (ad_l4 hw) ⟨ad_in (by omega) (by decide), nm_e ?_⟩
    refine ad_sa17 G hw (fun j hj => ?_) (fun c hc => K _ (ad_FIs hf hw hc))
    rw [ad_c (by omega), hf.2 w (by omega), show fm w = fm (0 + w) by rw [Nat.zero_add], ad_xfw hj]
    exact h0 _ (by omega)
theorem ad_sc19 (G : ad_XG p A xa xb hv) {post : SX → Prop} {J : Int32 → (Nat → Int32) → (Nat → Int32) → (Nat → Int64) → (Nat → Int64) → (Nat → Int64) → (Nat → Int64) → (Nat → Int64) → (Nat → Int32) → (Nat → Int32) → Prop} {w : Nat} (hw : w < 4) {c0 : Int64} (h0 : ∀ j, j < 64 → ad_w c0 j = ad_f1 p A (64 * w + j))
    (h : ∀ c : Int64, (∀ j, j < 64 → ad_w c j = ad_f2 p A (64 * w + j)) → J (nI (w + 1)) xa xb hv (vp_updL fm (8 + w) c) wk ot rf gr ct) : ∃ n, wX_startComplete_19 post J (nI w) (nI p) kn gc xa xb hv fm wk ot rf gr ct n c0 0 := by
  refine loop_0 (fun n i c => wX_startComplete_19 post J (nI w) (nI p) kn gc xa xb hv fm wk ot rf gr ct n c (nI i)) (fun i c => ∀ j, j < 64 → ad_w c j = (ad_f1 p A (64 * w + j) && ad_al (fun a => !p.testBit a || ((64 * w + j).testBit a || !ad_dn A a (64 * w + j))) i)) 8 c0 (fun j hj => by rw [h0 j hj, ad_al, Bool.and_true]) ?_ ?_
  · intro n c hc
    refine br_t ad_g8 ⟨ad_ina (o := 8) (by omega) (by decide), nm_e (nm_r (nI_1 w) ?_)⟩
    rw [show (8 + nI w).toNatClampNeg = 8 + w from ad_ca (o := 8) (by omega)]
    exact h c (fun j hj => by rw [hc j hj, ad_x2 (by omega) G.1.2.1])
  · intro n i c hi hc K
    refine br_f (ad_l8 hi) (ad_xb rfl rfl G.1.1 (by omega) (fun hb => ?_) (fun hb => ?_))
    · refine nm_r (nI_1 i) (K _ (fun j hj => ?_))
      rw [hc j hj, ad_al, hb, Bool.not_false, Bool.true_or, Bool.and_true]
    · refine ⟨ad_in4 (by omega) (by decide), ad_xde G rfl rfl hi hw (fun r hr => ?_)⟩
      refine nm_e (nm_r (nI_1 i) (K _ (fun j hj => ?_)))
      rw [ad_w_and, ad_w_or, ad_w_not _ hj, ad_c4 (by omega), hc j hj, ad_hvw G hi hw hj, hr j hj, ad_al, hb, Bool.not_true, Bool.false_or, Bool.and_assoc]
theorem ad_xsc (G : ad_XG p A xa xb hv) {post : SX → Prop} (h0 : ∀ s, s < 256 → ad_xf fm 4 s = ad_f1 p A s) (h : ∀ f, ad_P 2 (ad_f2 p A) fm f → post ((nI p), kn, gc, xa, xb, hv, f, wk, ot, rf, gr, ct)) : wpX_startComplete post ((nI p), kn, gc, xa, xb, hv, fm, wk, ot, rf, gr, ct) := by
  show ∃ n2 : Nat, wX_startComplete_2 post (nI p) kn gc n2 0 xa xb hv fm wk ot rf gr ct
  refine loop_0 (fun n i f => wX_startComplete_2 post (nI p) kn gc n (nI i) xa xb hv f wk ot rf gr ct) (fun i f => ad_FI (ad_f2 p A) 8 fm i f) 4 fm (ad_FI0 _ _ _) ?_ ?_
  · intro n f hf
    exact br_t ad_g4 (h f (ad_FIP (k := 2) hf))
  · intro n w f hw hf K
    refine br_f (ad_l4 hw) ⟨ad_ina (o := 4) (by omega) (by decide), nm_e ?_⟩
    refine ad_sc19 G hw (fun j hj => ?_) (fun c hc => K _ (ad_FIs hf hw hc))
    rw [show (4 + nI w).toNatClampNeg = 4 + w from ad_ca (o := 4) (by omega), hf.2 (4 + w) (by omega), ad_xfw hj]
    exact h0 _ (by omega)
theorem ad_ss17 (G : ad_XG p A xa xb hv) {post : SX → Prop} {J : Int32 → (Nat → Int32) → (Nat → Int32) → (Nat → Int64) → (Nat → Int64) → (Nat → Int64) → (Nat → Int64) → (Nat → Int64) → (Nat → Int32) → (Nat → Int32) → Prop} {w : Nat} (hw : w < 4) {c0 : Int64} (h0 : ∀ j, j < 64 → ad_w c0 j = ad_f0 p A (64 * w + j))
    (h : ∀ c : Int64, (∀ j, j < 64 → ad_w c j = ad_f5 p A (64 * w + j)) → J (nI (w + 1)) xa xb hv (vp_updL fm (20 + w) c) wk ot rf gr ct) : ∃ n, wX_startStable_17 post J (nI w) (nI p) kn gc xa xb hv fm wk ot rf gr ct n c0 0 := by
  refine loop_0 (fun n i c => wX_startStable_17 post J (nI w) (nI p) kn gc xa xb hv fm wk ot rf gr ct n c (nI i)) (fun i c => ∀ j, j < 64 → ad_w c j = (ad_f0 p A (64 * w + j) && ad_al (fun a => !p.testBit a || ((64 * w + j).testBit a || ad_hb (ad_ak A a) (64 * w + j))) i)) 8 c0 (fun j hj => by rw [h0 j hj, ad_al, Bool.and_true]) ?_ ?_
  · intro n c hc
    refine br_t ad_g8 ⟨ad_ina (o := 20) (by omega) (by decide), nm_e (nm_r (nI_1 w) ?_)⟩
    rw [show (20 + nI w).toNatClampNeg = 20 + w from ad_ca (o := 20) (by omega)]
    exact h c (fun j hj => by rw [hc j hj, ad_x5 (by omega) G.1])
  · intro n i c hi hc K
    refine br_f (ad_l8 hi) (ad_xb rfl rfl G.1.1 (by omega) (fun hb => ?_) (fun hb => ?_))
    · refine nm_r (nI_1 i) (K _ (fun j hj => ?_))
      rw [hc j hj, ad_al, hb, Bool.not_false, Bool.true_or, Bool.and_true]
    · refine ⟨ad_in4 (by omega) (by decide), ad_in hi (by decide), ad_xhi G (ad_cA G.2.2.1 hi (by decide)) rfl (ad_ak_lt A i) hw (fun r hr => ?_)⟩
      refine nm_e (nm_r (nI_1 i) (K _ (fun j hj => ?_)))
      rw [ad_w_and, ad_w_or, ad_c4 (by omega), hc j hj, ad_hvw G hi hw hj, hr j hj, ad_al, hb, Bool.not_true, Bool.false_or, Bool.and_assoc]
theorem ad_xss (G : ad_XG p A xa xb hv) {post : SX → Prop} (h0 : ∀ s, s < 256 → ad_xf fm 0 s = ad_f0 p A s) (h : ∀ f, ad_P 5 (ad_f5 p A) fm f → post ((nI p), kn, gc, xa, xb, hv, f, wk, ot, rf, gr, ct)) : wpX_startStable post ((nI p), kn, gc, xa, xb, hv, fm, wk, ot, rf, gr, ct) := by
  show ∃ n2 : Nat, wX_startStable_2 post (nI p) kn gc n2 0 xa xb hv fm wk ot rf gr ct
  refine loop_0 (fun n i f => wX_startStable_2 post (nI p) kn gc n (nI i) xa xb hv f wk ot rf gr ct) (fun i f => ad_FI (ad_f5 p A) 20 fm i f) 4 fm (ad_FI0 _ _ _) ?_ ?_
  · intro n f hf
    exact br_t ad_g4 (h f (ad_FIP (k := 5) hf))
  · intro n w f hw hf K
    refine br_f (ad_l4 hw) ⟨ad_in (by omega) (by decide), nm_e ?_⟩
    refine ad_ss17 G hw (fun j hj => ?_) (fun c hc => K _ (ad_FIs hf hw hc))
    rw [ad_c (by omega), hf.2 w (by omega), show fm w = fm (0 + w) by rw [Nat.zero_add], ad_xfw hj]
    exact h0 _ (by omega)
theorem ad_xsi {post : SX → Prop} {x y : Int32} {k t : Nat} (hx : x = nI k) (hy : y = nI t) (hk : k < 12) (ht : t < 256) (h : ∀ f, ad_P k (fun s => decide (s = t)) fm f → post ((nI p), kn, gc, xa, xb, hv, f, wk, ot, rf, gr, ct)) : wpX_single post ((nI p), kn, gc, xa, xb, hv, fm, wk, ot, rf, gr, ct) x y := by
  subst hx hy
  show ∃ n2 : Nat, wX_single_2 post (nI k) (nI t) (nI p) kn gc n2 0 xa xb hv fm wk ot rf gr ct
  refine loop_0 (fun n i f => wX_single_2 post (nI k) (nI t) (nI p) kn gc n (nI i) xa xb hv f wk ot rf gr ct) (fun i f => ad_FI (fun s => decide (s = t)) (4 * k) fm i f) 4 fm (ad_FI0 _ _ _) ?_ ?_
  · intro n f hf
    exact br_t ad_g4 (h f (ad_FIP hf))
  · intro n w f hw hf K
    refine br_f (ad_l4 hw) (pk_eq w (t / 64) (fun e => ?_) (fun e => ?_) rfl (ad_s6 ht))
    · refine ⟨ad_in4 (by omega) (by decide), nm_e (nm_r (nI_1 w) ?_)⟩
      rw [ad_c4 (by omega)]
      refine K _ (ad_FIs hf hw (fun j hj => ?_))
      rw [ad_w_one ht hj]
      exact decide_eq_decide.mpr (by omega)
    · refine ⟨ad_in4 (by omega) (by decide), nm_e (nm_r (nI_1 w) ?_)⟩
      rw [ad_c4 (by omega)]
      refine K _ (ad_FIs hf hw (fun j hj => ?_))
      rw [ad_w_0]
      exact (decide_eq_false (by omega)).symm
theorem ad_xfl (G : ad_XG p A xa xb hv) {post : SX → Prop} (h : ∀ f, ad_P 3 (ad_f3 p A) fm f → post ((nI p), kn, gc, xa, xb, hv, f, wk, ot, rf, gr, ct)) : wpX_findLeast post ((nI p), kn, gc, xa, xb, hv, fm, wk, ot, rf, gr, ct) := by
  show ∃ n4 : Nat, wX_findLeast_4 post (nI p) kn gc xa xb hv fm wk ot rf gr ct n4 0 0
  refine loop_0 (fun n i c => wX_findLeast_4 post (nI p) kn gc xa xb hv fm wk ot rf gr ct n c (nI i)) (fun i c => c = nI (ad_ls p A i)) 8 0 nI_0.symm ?_ ?_
  · intro n c hc
    refine br_t ad_g8 (ad_xsi (k := 3) rfl hc (by decide) (ad_ls_lt p A 8) (fun f hf => ?_))
    have e : (fun s => decide (s = ad_ls p A 8)) = ad_f3 p A := funext (fun s => (ad_x3 G.1 s).symm)
    rw [e] at hf
    exact h f hf
  · intro n i c hi hc K
    exact br_f (ad_l8 hi) (ad_xdb G hc (ad_ls_lt p A i) (nm_r (nI_1 i) (K _ rfl)))
end XF
end
section
/-! the component's greatest sets, reaches, cores -/
section XK
variable {p : Nat} {A : Nat → Nat} {kn gc : Int32} {xa xb : Nat → Int32} {hv fm wk ot rf : Nat → Int64} {gr ct : Nat → Int32}
/-- one argument's spread: the words below w are done -/
def ad_SI (O : Nat → Bool) (a w : Nat) (o : Nat → Int64) : Prop := ∀ s, s < 256 → ad_xf o 0 s = if s < 64 * w then (O s || ad_be O a s) else O s
theorem ad_be_c {O V : Nat → Bool} {a s : Nat} (h : s.testBit a = false → O (s + 2 ^ a) = V (s + 2 ^ a)) : ad_be O a s = ad_be V a s := by
  unfold ad_be
  cases hb : s.testBit a
  · rw [h hb]
  · rfl
theorem ad_SIs {O : Nat → Bool} {a w : Nat} {o : Nat → Int64} {r : Int64} (h : ad_SI O a w o) (ha : a < 8) (hw : w < 4) (hr : ∀ j, j < 64 → ad_w r j = ad_be (ad_xf o 0) a (64 * w + j)) : ad_SI O a (w + 1) (vp_updL o w (o w ||| r)) := by
  intro s hs
  have e0 : ∀ q, o q = o (0 + q) := fun q => by rw [Nat.zero_add]
  by_cases e : s / 64 = w
  · rw [if_pos (by omega)]
    unfold ad_xf
    have hj : s % 64 < 64 := Nat.mod_lt _ (by decide)
    rw [Nat.zero_add, e, pk_uLs, ad_w_or, hr _ hj, e0 w, ad_xfw hj, show 64 * w + s % 64 = s by omega, h s hs, if_neg (by omega)]
    congr 1
    refine ad_be_c (fun hb => ?_)
    have h2 : 0 < 2 ^ a := Nat.two_pow_pos a
    rw [h _ (ad_pl_lt hs ha hb), if_neg (by generalize 2 ^ a = q at h2; omega)]
  · unfold ad_xf
    rw [pk_uLn (by omega)]
    have h2 := h s hs
    unfold ad_xf at h2
    rw [h2]
    by_cases c : s < 64 * w
    · rw [if_pos c, if_pos (by omega)]
    · rw [if_neg c, if_neg (by omega)]
theorem ad_kg35 (G : ad_XG p A xa xb hv) {post : SX → Prop} {J : Int32 → (Nat → Int32) → (Nat → Int32) → (Nat → Int64) → (Nat → Int64) → (Nat → Int64) → (Nat → Int64) → (Nat → Int64) → (Nat → Int32) → (Nat → Int32) → Prop} {a : Nat} (ha : a < 8)
    (h : ∀ o, (∀ s, s < 256 → ad_xf o 0 s = (ad_xf ot 0 s || ad_be (ad_xf ot 0) a s)) → J (nI (a + 1)) xa xb hv fm wk o rf gr ct) : ∃ n, wX_keepGreatest_35 post J (nI a) (nI p) kn gc n 0 xa xb hv fm wk ot rf gr ct := by
  refine loop_0 (fun n i o => wX_keepGreatest_35 post J (nI a) (nI p) kn gc n (nI i) xa xb hv fm wk o rf gr ct) (fun i o => ad_SI (ad_xf ot 0) a i o) 4 ot (fun s hs => by rw [if_neg (by omega)]) ?_ ?_
  · intro n o ho
    refine br_t ad_g4 (nm_r (nI_1 a) (h o (fun s hs => ?_)))
    rw [ho s hs, if_pos (by omega)]
  · intro n w o hw ho K
    refine br_f (ad_l4 hw) ⟨ad_in hw (by decide), ad_xbe G rfl rfl ha hw (fun r hr => ⟨ad_in hw (by decide), nm_e (nm_r (nI_1 w) ?_)⟩)⟩
    rw [ad_c (by omega)]
    exact K _ (ad_SIs ho ha hw hr)
theorem ad_kg76 (G : ad_XG p A xa xb hv) {post : SX → Prop} {J : Int32 → (Nat → Int32) → (Nat → Int32) → (Nat → Int64) → (Nat → Int64) → (Nat → Int64) → (Nat → Int64) → (Nat → Int64) → (Nat → Int32) → (Nat → Int32) → Prop} {w : Nat} (hw : w < 4)
    (h : ∀ k : Nat → Int64, (∀ j, j < 64 → ad_w (k w) j = (ad_w (wk w) j && ad_al (fun a => !ad_be (ad_xf ot 0) a (64 * w + j)) 8)) → (∀ i, i ≠ w → k i = wk i) → J (nI (w + 1)) xa xb hv fm k ot rf gr ct) : ∃ n, wX_keepGreatest_76 post J (nI w) (nI p) kn gc n 0 xa xb hv fm wk ot rf gr ct := by
  refine loop_0 (fun n i k => wX_keepGreatest_76 post J (nI w) (nI p) kn gc n (nI i) xa xb hv fm k ot rf gr ct) (fun i k => (∀ j, j < 64 → ad_w (k w) j = (ad_w (wk w) j && ad_al (fun a => !ad_be (ad_xf ot 0) a (64 * w + j)) i)) ∧ (∀ i, i ≠ w → k i = wk i)) 8 wk ⟨fun j _ => by rw [ad_al, Bool.and_true], fun _ _ => rfl⟩ ?_ ?_
  · intro n k hk
    exact br_t ad_g8 (nm_r (nI_1 w) (h k hk.1 hk.2))
  · intro n i k hi hk K
    refine br_f (ad_l8 hi) ⟨ad_in hw (by decide), ad_xbe G rfl rfl hi hw (fun r hr => ⟨ad_in hw (by decide), nm_e (nm_r (nI_1 i) ?_)⟩)⟩
    rw [ad_c (by omega)]
    refine K _ ⟨fun j hj => ?_, fun q hq => ?_⟩
    · rw [pk_uLs, ad_w_and, ad_w_not _ hj, hk.1 j hj, hr j hj, ad_al, Bool.and_assoc]
    · rw [pk_uLn hq]; exact hk.2 q hq
theorem ad_kg69 (G : ad_XG p A xa xb hv) {post : SX → Prop} {W : Nat → Bool} (hW : ∀ s, s < 256 → ad_xf wk 0 s = W s) (hD : ad_DI W 8 (ad_xf ot 0)) (h : ∀ k, (∀ s, s < 256 → ad_xf k 0 s = ad_kg W s) → post ((nI p), kn, gc, xa, xb, hv, fm, k, ot, rf, gr, ct)) : ∃ n, wX_keepGreatest_69 post (nI p) kn gc n 0 xa xb hv fm wk ot rf gr ct := by
  refine loop_0 (fun n i k => wX_keepGreatest_69 post (nI p) kn gc n (nI i) xa xb hv fm k ot rf gr ct) (fun i k => ∀ s, s < 256 → ad_xf k 0 s = if s < 64 * i then ad_kg W s else W s) 4 wk (fun s hs => by rw [if_neg (by omega)]; exact hW s hs) ?_ ?_
  · intro n k hk
    refine br_t ad_g4 (h k (fun s hs => ?_))
    rw [hk s hs, if_pos (by omega)]
  · intro n w k hw hk K
    refine br_f (ad_l4 hw) (ad_kg76 G hw (fun k2 h1 h2 => K k2 (fun s hs => ?_)))
    by_cases e : s / 64 = w
    · rw [if_pos (by omega)]
      have hj : s % 64 < 64 := Nat.mod_lt _ (by decide)
      have h3 := h1 _ hj
      have h4 := hk s hs
      rw [if_neg (by omega)] at h4
      unfold ad_xf at h4
      rw [Nat.zero_add, e] at h4
      rw [h4, show 64 * w + s % 64 = s by omega] at h3
      rw [ad_kgX hD hs] at h3
      show ad_w (k2 (0 + s / 64)) (s % 64) = _
      rw [Nat.zero_add, e]; exact h3
    · have h4 := hk s hs
      unfold ad_xf at h4 ⊢
      rw [h2 _ (by omega), h4]
      by_cases c : s < 64 * w
      · rw [if_pos c, if_pos (by omega)]
      · rw [if_neg c, if_neg (by omega)]
theorem ad_kg27 (G : ad_XG p A xa xb hv) {post : SX → Prop} {W : Nat → Bool} (hW : ∀ s, s < 256 → ad_xf wk 0 s = W s) (hO : ∀ s, s < 256 → ad_xf ot 0 s = W s) (h : ∀ k o, (∀ s, s < 256 → ad_xf k 0 s = ad_kg W s) → post ((nI p), kn, gc, xa, xb, hv, fm, k, o, rf, gr, ct)) : ∃ n, wX_keepGreatest_27 post (nI p) kn gc n 0 xa xb hv fm wk ot rf gr ct := by
  refine loop_0 (fun n i o => wX_keepGreatest_27 post (nI p) kn gc n (nI i) xa xb hv fm wk o rf gr ct) (fun i o => ad_DI W i (ad_xf o 0)) 8 ot (ad_DI0 hO) ?_ ?_
  · intro n o ho
    exact br_t ad_g8 (ad_kg69 G hW ho (fun k hk => h k o hk))
  · intro n a o ha ho K
    exact br_f (ad_l8 ha) (ad_kg35 G ha (fun o2 h2 => K o2 (ad_DIs ha ho h2)))
theorem ad_xkg (G : ad_XG p A xa xb hv) {post : SX → Prop} {W : Nat → Bool} (hW : ∀ s, s < 256 → ad_xf wk 0 s = W s) (h : ∀ k o, (∀ s, s < 256 → ad_xf k 0 s = ad_kg W s) → post ((nI p), kn, gc, xa, xb, hv, fm, k, o, rf, gr, ct)) : wpX_keepGreatest post ((nI p), kn, gc, xa, xb, hv, fm, wk, ot, rf, gr, ct) := by
  show ∃ n2 : Nat, wX_keepGreatest_2 post (nI p) kn gc n2 0 xa xb hv fm wk ot rf gr ct
  refine loop_0 (fun n i o => wX_keepGreatest_2 post (nI p) kn gc n (nI i) xa xb hv fm wk o rf gr ct) (fun i o => ad_FI W 0 ot i o) 4 ot (ad_FI0 _ _ _) ?_ ?_
  · intro n o ho
    exact br_t ad_g4 (ad_kg27 G hW (fun s hs => ho.1 s (by omega)) h)
  · intro n w o hw ho K
    refine br_f (ad_l4 hw) ⟨ad_in hw (by decide), ad_in hw (by decide), nm_e (nm_r (nI_1 w) ?_)⟩
    rw [ad_c (by omega)]
    refine K _ ?_
    have e := ad_FIs (c := wk w) ho hw (fun j hj => by
      rw [← hW _ (by omega), ← ad_xfw hj, Nat.zero_add])
    rw [Nat.zero_add] at e
    exact e
/-! greatest of a family -/
theorem ad_go33 {post : SX → Prop} {k : Nat} {W : Nat → Bool} (hk : k < 12) (hW : ∀ s, s < 256 → ad_xf wk 0 s = W s) (h : ∀ f, ad_P k W fm f → post ((nI p), kn, gc, xa, xb, hv, f, wk, ot, rf, gr, ct)) : ∃ n, wX_greatestOf_33 post (nI (4 * k)) (nI p) kn gc n 0 xa xb hv fm wk ot rf gr ct := by
  refine loop_0 (fun n i f => wX_greatestOf_33 post (nI (4 * k)) (nI p) kn gc n (nI i) xa xb hv f wk ot rf gr ct) (fun i f => ad_FI W (4 * k) fm i f) 4 fm (ad_FI0 _ _ _) ?_ ?_
  · intro n f hf
    exact br_t ad_g4 (h f (ad_FIP hf))
  · intro n w f hw hf K
    refine br_f (ad_l4 hw) ⟨ad_in hw (by decide), ad_ina (by omega) (by decide), nm_e (nm_r (nI_1 w) ?_)⟩
    rw [ad_ca (by omega), ad_c (by omega)]
    refine K _ (ad_FIs hf hw (fun j hj => ?_))
    rw [← hW _ (by omega), ← ad_xfw hj, Nat.zero_add]
theorem ad_xgo (G : ad_XG p A xa xb hv) {post : SX → Prop} {x y : Int32} {k m : Nat} {F : Nat → Bool} (hx : x = nI (4 * m)) (hy : y = nI (4 * k)) (hm : m < 12) (hk : k < 12) (hF : ∀ s, s < 256 → ad_xf fm (4 * m) s = F s) (h : ∀ f k2 o, ad_P k (ad_kg F) fm f → post ((nI p), kn, gc, xa, xb, hv, f, k2, o, rf, gr, ct)) : wpX_greatestOf post ((nI p), kn, gc, xa, xb, hv, fm, wk, ot, rf, gr, ct) x y := by
  subst hx hy
  show ∃ n2 : Nat, wX_greatestOf_2 post (nI (4 * m)) (nI (4 * k)) (nI p) kn gc n2 0 xa xb hv fm wk ot rf gr ct
  refine loop_0 (fun n i k2 => wX_greatestOf_2 post (nI (4 * m)) (nI (4 * k)) (nI p) kn gc n (nI i) xa xb hv fm k2 ot rf gr ct) (fun i k2 => ad_FI F 0 wk i k2) 4 wk (ad_FI0 _ _ _) ?_ ?_
  · intro n k2 hk2
    refine br_t ad_g4 (ad_xkg G (fun s hs => hk2.1 s (by omega)) (fun k3 o h3 => ?_))
    exact ad_go33 hk h3 (fun f hf => h f k3 o hf)
  · intro n w k2 hw hk2 K
    refine br_f (ad_l4 hw) ⟨ad_ina (by omega) (by decide), ad_in hw (by decide), nm_e (nm_r (nI_1 w) ?_)⟩
    rw [ad_ca (by omega), ad_c (by omega)]
    refine K _ ?_
    have e := ad_FIs (c := fm (4 * m + w)) hk2 hw (fun j hj => by
      rw [← hF _ (by omega), ← ad_xfw hj])
    rw [Nat.zero_add] at e
    exact e
theorem ad_xtg (G : ad_XG p A xa xb hv) {post : SX → Prop} {x y : Int32} {k m : Nat} {F : Nat → Bool} (hx : x = nI k) (hy : y = nI m) (hm : m < 12) (hk : k < 12) (hF : ∀ s, s < 256 → ad_xf fm (4 * m) s = F s) (h : ∀ f k2 o, ad_P k (ad_kg F) fm f → post ((nI p), kn, gc, xa, xb, hv, f, k2, o, rf, gr, ct)) : wpX_takeGreatest post ((nI p), kn, gc, xa, xb, hv, fm, wk, ot, rf, gr, ct) x y := by
  subst hx hy
  unfold wpX_takeGreatest
  refine ad_xgo G (ad_4m m) (ad_4m k) hm hk hF (fun f k2 o hf => ?_)
  exact h f k2 o hf
/-! widest reach -/
theorem ad_xro (G : ad_XG p A xa xb hv) {post : Int32 → Prop} {x : Int32} {s : Nat} (hx : x = nI s) (hs : s < 256) (h : post (nI (ad_rc A s))) : wpX_reachOf post ((nI p), kn, gc, xa, xb, hv, fm, wk, ot, rf, gr, ct) x := by
  subst hx
  unfold wpX_reachOf
  refine ad_xaf G rfl hs ?_
  show post (nI s ||| nI (ad_hit A s))
  rw [ad_or]; exact h
theorem ad_rc_lt (hA : ∀ j, j < 8 → A j < 256) {s : Nat} (hs : s < 256) : ad_rc A s < 256 := ad_or_lt hs (ad_hit_lt s hA)
theorem ad_tw116 (G : ad_XG p A xa xb hv) {post : SX → Prop} {k m : Nat} {F R : Nat → Bool} (hk : k < 12) (hm : m < 12) (hkm : m ≠ k) (hF : ∀ s, s < 256 → ad_xf fm (4 * m) s = F s) (hR : ∀ s, s < 256 → ad_xf rf 0 s = R s) (h0 : ∀ s, s < 256 → ad_xf fm (4 * k) s = false) (h : ∀ f, ad_P k (fun s => F s && R (ad_rc A s)) fm f → post ((nI p), kn, gc, xa, xb, hv, f, wk, ot, rf, gr, ct)) : ∃ n, wX_takeWidest_116 post (nI k) (nI m) (nI p) kn gc n 0 xa xb hv fm wk ot rf gr ct := by
  refine loop_0 (fun n i f => wX_takeWidest_116 post (nI k) (nI m) (nI p) kn gc n (nI i) xa xb hv f wk ot rf gr ct) (fun i f => (∀ s, s < 256 → ad_xf f (4 * k) s = (decide (s < i) && (F s && R (ad_rc A s)))) ∧ (∀ q, q < 12 → q ≠ k → ∀ s, s < 256 → ad_xf f (4 * q) s = ad_xf fm (4 * q) s)) 256 fm ⟨fun s hs => by rw [h0 s hs, decide_eq_false (by omega), Bool.false_and], fun _ _ _ _ _ => rfl⟩ ?_ ?_
  · intro n f hf
    refine br_t ad_g256 (h f ⟨fun s hs => ?_, hf.2⟩)
    rw [hf.1 s hs, decide_eq_true hs, Bool.true_and]
  · intro n i f hi hf K
    have skip : (F i && R (ad_rc A i)) = false → (∀ s, s < 256 → ad_xf f (4 * k) s = (decide (s < i + 1) && (F s && R (ad_rc A s)))) ∧ (∀ q, q < 12 → q ≠ k → ∀ s, s < 256 → ad_xf f (4 * q) s = ad_xf fm (4 * q) s) := by
      intro z
      refine ⟨fun s hs => ?_, hf.2⟩
      rw [hf.1 s hs]
      by_cases e : s = i
      · rw [e, z, Bool.and_false, Bool.and_false]
      · congr 1
        exact decide_eq_decide.mpr (by omega)
    have hFi : ad_xf f (4 * m) i = F i := by rw [hf.2 m hm hkm i hi, hF i hi]
    refine br_f (ad_l256 hi) (ad_xifb rfl rfl hm hi (fun z => ?_) (fun z => ?_))
    · rw [hFi] at z
      exact nm_r (nI_1 i) (K f (skip (by rw [z]; rfl)))
    · rw [hFi] at z
      have hr := ad_rc_lt G.1.2.1 hi
      refine ad_xro G rfl hi ?_
      rw [ad_s6 hr, ad_c (by omega), ad_ush hr]
      have hRi : ad_w (rf (ad_rc A i / 64)) (ad_rc A i % 64) = R (ad_rc A i) := by
        rw [← hR _ hr]; unfold ad_xf; rw [Nat.zero_add]
      rw [hRi]
      refine ⟨ad_in (by omega) (by decide), br_c (fun y => ?_) (fun y => ?_)⟩
      · exact nm_r (nI_1 i) (K f (skip (by rw [y, Bool.and_false])))
      · have y2 : R (ad_rc A i) = true := by cases hb : R (ad_rc A i) <;> first | rfl | exact absurd hb y
        rw [ad_s6 hi, ad_i4, ad_c (by omega)]
        refine ⟨ad_in (by omega) (by decide), ad_in (by omega) (by decide), nm_e (nm_r (nI_1 i) (K _ ⟨fun s hs => ?_, fun q hq hqk s hs => ?_⟩))⟩
        · rw [ad_or1 hi hs, hf.1 s hs, decide_eq_true rfl, Bool.true_and]
          by_cases e : s = i
          · rw [e, z, y2, decide_eq_true rfl, decide_eq_true (show i < i + 1 by omega)]; simp
          · rw [decide_eq_false e, Bool.or_false]
            congr 1
            exact decide_eq_decide.mpr (by omega)
        · rw [ad_or1 hi hs, decide_eq_false hqk, Bool.false_and, Bool.or_false]
          exact hf.2 q hq hqk s hs
theorem ad_tw80 (G : ad_XG p A xa xb hv) {post : SX → Prop} {k m : Nat} {F R : Nat → Bool} (hk : k < 12) (hm : m < 12) (hkm : m ≠ k) (hF : ∀ s, s < 256 → ad_xf fm (4 * m) s = F s) (hR : ∀ s, s < 256 → ad_xf wk 0 s = R s) (h : ∀ f r, ad_P k (fun s => F s && R (ad_rc A s)) fm f → post ((nI p), kn, gc, xa, xb, hv, f, wk, ot, r, gr, ct)) : ∃ n, wX_takeWidest_80 post (nI k) (nI m) (nI p) kn gc n 0 xa xb hv fm wk ot rf gr ct := by
  refine loop_0 (fun n i (s : (Nat → Int64) × (Nat → Int64)) => wX_takeWidest_80 post (nI k) (nI m) (nI p) kn gc n (nI i) xa xb hv s.1 wk ot s.2 gr ct) (fun i s => ad_FI (fun _ => false) (4 * k) fm i s.1 ∧ ad_FI R 0 rf i s.2) 4 (fm, rf) ⟨ad_FI0 _ _ _, ad_FI0 _ _ _⟩ ?_ ?_
  · intro n s hs
    have hP := ad_FIP hs.1
    refine br_t ad_g4 (ad_tw116 G hk hm hkm (fun t ht => by rw [hP.2 m hm hkm t ht]; exact hF t ht) (fun t ht => hs.2.1 t (by omega)) (fun t ht => hP.1 t ht) (fun f hf => h f s.2 ⟨hf.1, fun q hq hqk t ht => ?_⟩))
    rw [hf.2 q hq hqk t ht, hP.2 q hq hqk t ht]
  · intro n w s hw hs K
    refine br_f (ad_l4 hw) ⟨ad_in hw (by decide), ad_in hw (by decide), nm_e ⟨ad_in4 (by omega) (by decide), nm_e (nm_r (nI_1 w) ?_)⟩⟩
    rw [ad_c4 (by omega), ad_c (by omega)]
    refine K (vp_updL s.1 (4 * k + w) 0, vp_updL s.2 w (wk w)) ⟨ad_FIs hs.1 hw (fun j _ => ad_w_0 j), ?_⟩
    have e := ad_FIs (c := wk w) hs.2 hw (fun j hj => by
      rw [← hR _ (by omega), ← ad_xfw hj, Nat.zero_add])
    rw [Nat.zero_add] at e
    exact e
theorem ad_orw {f : Nat → Int64} {s t : Nat} (hs : s < 256) (ht : t < 256) : ad_xf (vp_updL f (s / 64) (f (s / 64) ||| ((1 : Int64) <<< ((nI s &&& 63).toInt64 &&& 63)))) 0 t = (ad_xf f 0 t || decide (t = s)) := by
  have e := ad_or1 (f := f) (k := 0) (k' := 0) hs ht
  rw [Nat.mul_zero, Nat.zero_add, decide_eq_true rfl, Bool.true_and] at e
  exact e
theorem ad_tw22 (G : ad_XG p A xa xb hv) {post : SX → Prop} {k m : Nat} {F : Nat → Bool} (hk : k < 12) (hm : m < 12) (hkm : m ≠ k) (hF : ∀ s, s < 256 → ad_xf fm (4 * m) s = F s) (h0 : ∀ s, s < 256 → ad_xf wk 0 s = false) (h : ∀ f r k2 o, ad_P k (fun s => F s && ad_gr F (ad_rc A) s) fm f → post ((nI p), kn, gc, xa, xb, hv, f, k2, o, r, gr, ct)) : ∃ n, wX_takeWidest_22 post (nI k) (nI m) (nI p) kn gc n 0 xa xb hv fm wk ot rf gr ct := by
  have hA := G.1.2.1
  refine loop_0 (fun n i k2 => wX_takeWidest_22 post (nI k) (nI m) (nI p) kn gc n (nI i) xa xb hv fm k2 ot rf gr ct) (fun i k2 => ∀ u, u < 256 → ad_xf k2 0 u = ad_an (fun t => F t && decide (ad_rc A t = u)) i) 256 wk (fun u hu => h0 u hu) ?_ ?_
  · intro n k2 hk2
    refine br_t ad_g256 (ad_xkg G (W := fun u => ad_an (fun t => F t && decide (ad_rc A t = u)) 256) hk2 (fun k3 o h3 => ?_))
    refine ad_tw80 G hk hm hkm hF h3 (fun f r hf => h f r k3 o ⟨fun s hs => ?_, hf.2⟩)
    rw [hf.1 s hs]
    exact ad_grX (fun s hs => ad_rc_lt hA hs) (fun _ _ => rfl) hs
  · intro n i k2 hi hk2 K
    refine br_f (ad_l256 hi) (ad_xifb rfl rfl hm hi (fun z => ?_) (fun z => ?_))
    · rw [hF i hi] at z
      refine nm_r (nI_1 i) (K k2 (fun u hu => ?_))
      rw [hk2 u hu, ad_an]
      simp only [z, Bool.false_and, Bool.or_false]
    · rw [hF i hi] at z
      have hr := ad_rc_lt hA hi
      refine ad_xro G rfl hi ?_
      rw [ad_s6 hr, ad_c (by omega)]
      refine ⟨ad_in (by omega) (by decide), ad_in (by omega) (by decide), nm_e (nm_r (nI_1 i) (K _ (fun u hu => ?_)))⟩
      rw [ad_orw hr hu, hk2 u hu, ad_an]
      simp only [z, Bool.true_and]
      congr 1
      exact decide_eq_decide.mpr ⟨fun e => e.symm, fun e => e.symm⟩
theorem ad_xtw (G : ad_XG p A xa xb hv) {post : SX → Prop} {x y : Int32} {k m : Nat} {F : Nat → Bool} (hx : x = nI k) (hy : y = nI m) (hk : k < 12) (hm : m < 12) (hkm : m ≠ k) (hF : ∀ s, s < 256 → ad_xf fm (4 * m) s = F s) (h : ∀ f r k2 o, ad_P k (fun s => F s && ad_gr F (ad_rc A) s) fm f → post ((nI p), kn, gc, xa, xb, hv, f, k2, o, r, gr, ct)) : wpX_takeWidest post ((nI p), kn, gc, xa, xb, hv, fm, wk, ot, rf, gr, ct) x y := by
  subst hx hy
  show ∃ n2 : Nat, wX_takeWidest_2 post (nI k) (nI m) (nI p) kn gc n2 0 xa xb hv fm wk ot rf gr ct
  refine loop_0 (fun n i k2 => wX_takeWidest_2 post (nI k) (nI m) (nI p) kn gc n (nI i) xa xb hv fm k2 ot rf gr ct) (fun i k2 => ad_FI (fun _ => false) 0 wk i k2) 4 wk (ad_FI0 _ _ _) ?_ ?_
  · intro n k2 hk2
    exact br_t ad_g4 (ad_tw22 G hk hm hkm hF (fun s hs => hk2.1 s (by omega)) h)
  · intro n w k2 hw hk2 K
    refine br_f (ad_l4 hw) ⟨ad_in hw (by decide), nm_e (nm_r (nI_1 w) ?_)⟩
    rw [ad_c (by omega)]
    refine K _ ?_
    have e := ad_FIs (c := 0) hk2 hw (fun j _ => ad_w_0 j)
    rw [Nat.zero_add] at e
    exact e
/-! within a core -/
theorem ad_wi62 {post : SX → Prop} {k : Nat} {W : Nat → Bool} (hk : k < 12) (hW : ∀ s, s < 256 → ad_xf wk 0 s = W s) (h : ∀ f, ad_P k W fm f → post ((nI p), kn, gc, xa, xb, hv, f, wk, ot, rf, gr, ct)) : ∃ n, wX_takeWithin_62 post (nI k) (nI p) kn gc n 0 xa xb hv fm wk ot rf gr ct := by
  refine loop_0 (fun n i f => wX_takeWithin_62 post (nI k) (nI p) kn gc n (nI i) xa xb hv f wk ot rf gr ct) (fun i f => ad_FI W (4 * k) fm i f) 4 fm (ad_FI0 _ _ _) ?_ ?_
  · intro n f hf
    exact br_t ad_g4 (h f (ad_FIP hf))
  · intro n w f hw hf K
    refine br_f (ad_l4 hw) ⟨ad_in hw (by decide), ad_in4 (by omega) (by decide), nm_e (nm_r (nI_1 w) ?_)⟩
    rw [ad_c4 (by omega), ad_c (by omega)]
    refine K _ (ad_FIs hf hw (fun j hj => ?_))
    rw [← hW _ (by omega), ← ad_xfw hj, Nat.zero_add]
theorem ad_hbdf {c s : Nat} (hs : s < 256) : (!ad_hb (ad_df 255 c) s) = decide (ad_df s c = 0) := by
  rw [Bool.eq_iff_iff, Bool.not_eq_true', decide_eq_true_iff, ad_df0 hs]
  unfold ad_hb
  rw [ad_an_no]
  have h255 := (by decide : ∀ i, i < 8 → (255 : Nat).testBit i = true)
  constructor
  · intro h i hi z
    have e := h i hi
    rw [ad_df_bit (by omega), h255 i hi, z] at e
    revert e; cases c.testBit i <;> decide
  · intro h i hi
    rw [ad_df_bit (by omega)]
    cases hb : s.testBit i
    · rw [Bool.and_false]
    · rw [h i hi hb]; simp
theorem ad_xwi (G : ad_XG p A xa xb hv) {post : SX → Prop} {x y : Int32} {k m : Nat} {F H : Nat → Bool} (hx : x = nI k) (hy : y = nI m) (hk : k < 12) (hm : m < 12) (hF : ∀ s, s < 256 → ad_xf fm (4 * m) s = F s) (hH : ∀ s, s < 256 → ad_xf fm 4 s = H s) (h : ∀ f k2 o, ad_P k (ad_kg (ad_wi H (ad_cm p F 256))) fm f → post ((nI p), kn, gc, xa, xb, hv, f, k2, o, rf, gr, ct)) : wpX_takeWithin post ((nI p), kn, gc, xa, xb, hv, fm, wk, ot, rf, gr, ct) x y := by
  subst hx hy
  unfold wpX_takeWithin
  refine ad_xco G rfl hm ?_
  rw [ad_cm_c hF]
  have hc := ad_cm_lt F G.1.1 256
  refine loop_0 (fun n i k2 => wX_takeWithin_9 post (nI k) (nI (ad_cm p F 256)) (nI p) kn gc n (nI i) xa xb hv fm k2 ot rf gr ct) (fun i k2 => ad_FI (ad_wi H (ad_cm p F 256)) 0 wk i k2) 4 wk (ad_FI0 _ _ _) ?_ ?_
  · intro n k2 hk2
    refine br_t ad_g4 (ad_xkg G (fun s hs => hk2.1 s (by omega)) (fun k3 o h3 => ?_))
    exact ad_wi62 hk h3 (fun f hf => h f k3 o hf)
  · intro n w k2 hw hk2 K
    refine br_f (ad_l4 hw) ⟨ad_ina (o := 4) (by omega) (by decide), ad_xhi G (ad_df255 _) rfl (ad_df_lt _ (by decide)) hw (fun r hr => ⟨ad_in hw (by decide), nm_e (nm_r (nI_1 w) ?_)⟩)⟩
    rw [show (4 + nI w).toNatClampNeg = 4 + w from ad_ca (o := 4) (by omega), ad_c (by omega)]
    refine K _ ?_
    have e := ad_FIs (c := fm (4 + w) &&& (r ^^^ (-1))) hk2 hw (fun j hj => by
      rw [ad_w_and, ad_w_not _ hj, hr j hj, ad_xfw hj, hH _ (by omega), ad_hbdf (by omega)]; rfl)
    rw [Nat.zero_add] at e
    exact e
end XK
end
section
/-! the component's parts -/
section XP
variable {p : Nat} {A : Nat → Nat} {kn gc : Int32} {xa xb : Nat → Int32} {hv fm wk ot rf : Nat → Int64} {gr ct : Nat → Int32}
/-- rows below a are new, the others old -/
def ad_RI (C D : Nat → Nat) (a : Nat) (f : Nat → Int32) : Prop := ∀ j, j < 8 → f j = if j < a then nI (D j) else nI (C j)
theorem ad_RIs {C D : Nat → Nat} {a : Nat} {f : Nat → Int32} {x : Int32} (h : ad_RI C D a f) (hx : x = nI (D a)) : ad_RI C D (a + 1) (upd f a x) := by
  intro j hj
  by_cases e : j = a
  · subst e; rw [pk_us, if_pos (by omega), hx]
  · rw [pk_un e, h j hj]
    by_cases c : j < a
    · rw [if_pos c, if_pos (by omega)]
    · rw [if_neg c, if_neg (by omega)]
theorem ad_RIk {C D : Nat → Nat} {a : Nat} {f : Nat → Int32} (h : ad_RI C D a f) (hx : D a = C a) : ad_RI C D (a + 1) f := by
  intro j hj
  rw [h j hj]
  by_cases c : j < a
  · rw [if_pos c, if_pos (by omega)]
  · rw [if_neg c]
    by_cases e : j = a
    · subst e; rw [if_pos (by omega), hx]
    · rw [if_neg (by omega)]
theorem ad_fw56 {post : SX → Prop} {J : Int32 → (Nat → Int32) → (Nat → Int32) → (Nat → Int64) → (Nat → Int64) → (Nat → Int64) → (Nat → Int64) → (Nat → Int64) → (Nat → Int32) → (Nat → Int32) → Prop} {C : Nat → Nat} {c : Nat} (hc : c < 8) (hC : ∀ j, j < 8 → C j < 256) (h0 : ∀ j, j < 8 → ct j = nI (C j))
    (h : ∀ f, (∀ j, j < 8 → f j = nI (ad_wa C c j)) → J (nI (c + 1)) xa xb hv fm wk ot rf gr f) : ∃ n, wX_findWays_56 post J (nI c) (nI p) kn gc n 0 xa xb hv fm wk ot rf gr ct := by
  refine loop_0 (fun n i f => wX_findWays_56 post J (nI c) (nI p) kn gc n (nI i) xa xb hv fm wk ot rf gr f) (fun i f => ad_RI C (ad_wa C c) i f) 8 ct (fun j hj => by rw [if_neg (by omega)]; exact h0 j hj) ?_ ?_
  · intro n f hf
    refine br_t ad_g8 (nm_r (nI_1 c) (h f (fun j hj => ?_)))
    rw [hf j hj, if_pos hj]
  · intro n i f hi hf K
    have hfi : f i = nI (C i) := by rw [hf i hi, if_neg (by omega)]
    have hfc : f c = nI (C c) := by
      rw [hf c hc]; split
      · rw [ad_wa_c]
      · rfl
    refine br_f (ad_l8 hi) ⟨ad_in hi (by decide), ad_xb (by rw [ad_c (by omega)]; exact hfi) rfl (hC i hi) (by omega) (fun hb => ?_) (fun hb => ?_)⟩
    · exact nm_r (nI_1 i) (K f (ad_RIk hf (ad_wa_f hb)))
    · refine ⟨ad_in hi (by decide), ad_in hc (by decide), ad_in hi (by decide), nm_e (nm_r (nI_1 i) ?_)⟩
      rw [ad_c (by omega), ad_c (by omega)]
      refine K _ (ad_RIs hf ?_)
      rw [hfi, hfc, ad_or, ad_sh (ad_or_lt (hC i hi) (hC c hc)), ad_wa_t hb]
theorem ad_fw48 {post : SX → Prop} {g : Nat} (hg : g < 256) (h0 : ∀ j, j < 8 → ct j = nI (ad_w0 A g j)) (h : ∀ f, (∀ j, j < 8 → f j = nI (ad_wn A g 8 j)) → post ((nI p), kn, gc, xa, xb, hv, fm, wk, ot, rf, gr, f)) : ∃ n, wX_findWays_48 post (nI p) kn gc n 0 xa xb hv fm wk ot rf gr ct := by
  refine loop_0 (fun n i f => wX_findWays_48 post (nI p) kn gc n (nI i) xa xb hv fm wk ot rf gr f) (fun i f => ∀ j, j < 8 → f j = nI (ad_wn A g i j)) 8 ct h0 ?_ ?_
  · intro n f hf
    exact br_t ad_g8 (h f hf)
  · intro n i f hi hf K
    exact br_f (ad_l8 hi) (ad_fw56 hi (ad_wn_lt hg i (by omega)) hf (fun f2 h2 => K f2 h2))
theorem ad_xfw2 (G : ad_XG p A xa xb hv) {post : SX → Prop} {x : Int32} {g : Nat} (hx : x = nI g) (hg : g < 256) (h : ∀ f, (∀ j, j < 8 → f j = nI (ad_wn A g 8 j)) → post ((nI p), kn, gc, xa, xb, hv, fm, wk, ot, rf, gr, f)) : wpX_findWays post ((nI p), kn, gc, xa, xb, hv, fm, wk, ot, rf, gr, ct) x := by
  subst hx
  show ∃ n2 : Nat, wX_findWays_2 post (nI g) (nI p) kn gc n2 0 xa xb hv fm wk ot rf gr ct
  refine loop_0 (fun n i f => wX_findWays_2 post (nI g) (nI p) kn gc n (nI i) xa xb hv fm wk ot rf gr f) (fun i f => ∀ j, j < i → f j = nI (ad_w0 A g j)) 8 ct (fun j hj => by omega) ?_ ?_
  · intro n f hf
    exact br_t ad_g8 (ad_fw48 hg hf h)
  · intro n i f hi hf K
    have step : ∀ x : Int32, x = nI (ad_w0 A g i) → ∀ j, j < i + 1 → upd f i x j = nI (ad_w0 A g j) := by
      intro x hx j hj
      by_cases e : j = i
      · subst e; rw [pk_us, hx]
      · rw [pk_un e]; exact hf j (by omega)
    refine br_f (ad_l8 hi) (ad_xb rfl rfl hg (by omega) (fun hb => ?_) (fun hb => ?_))
    · refine ⟨ad_in hi (by decide), nm_e (nm_r (nI_1 i) ?_)⟩
      rw [ad_c (by omega)]
      refine K _ (step _ ?_)
      unfold ad_w0
      rw [hb, if_neg (by decide)]
      exact ad_sh (n := 0) (by decide)
    · refine ⟨ad_in hi (by decide), ad_in hi (by decide), nm_e (nm_r (nI_1 i) ?_)⟩
      rw [ad_c (by omega)]
      refine K _ (step _ ?_)
      rw [G.2.1 i hi, nx_and, ad_pw (by omega), ad_or, ad_sh (ad_or_lt (ad_and_lt' _ hg) (ad_pw_lt hi))]
      unfold ad_w0
      rw [if_pos hb]
theorem ad_po29 {post : Int32 → Prop} {C : Nat → Nat} {g lo : Nat} (hg : g < 256) (hl : lo < 8) (hC : ∀ j, j < 8 → C j < 256) (hc : ∀ j, j < 8 → ct j = nI (C j)) (h : post (nI (ad_mk (ad_pof C g lo) 8))) : ∃ n, wX_partOf_29 post (nI g) (nI lo) (nI p) kn gc xa xb hv fm wk ot rf gr ct n 0 0 := by
  refine loop_0 (fun n i c => wX_partOf_29 post (nI g) (nI lo) (nI p) kn gc xa xb hv fm wk ot rf gr ct n c (nI i)) (fun i c => c = nI (ad_mk (ad_pof C g lo) i)) 8 0 nI_0.symm ?_ ?_
  · intro n c e
    exact br_t ad_g8 (by rw [e]; exact h)
  · intro n i c hi e K
    have no : ad_pof C g lo i = false → wX_partOf_29 post (nI g) (nI lo) (nI p) kn gc xa xb hv fm wk ot rf gr ct n c (nI (i + 1)) := fun z => K c (by rw [e, ad_mk_f z])
    refine br_f (ad_l8 hi) (ad_xb rfl rfl hg (by omega) (fun h1 => nm_r (nI_1 i) (no ?_)) (fun h1 => ⟨ad_in hl (by decide), ad_xb (ad_cA hc hl (by decide)) rfl (hC lo hl) (by omega) (fun h2 => nm_r (nI_1 i) (no ?_)) (fun h2 => ⟨ad_in hi (by decide), ad_xb (ad_cA hc hi (by decide)) rfl (hC i hi) (by omega) (fun h3 => nm_r (nI_1 i) (no ?_)) (fun h3 => nm_e (nm_r (nI_1 i) (K _ ?_)))⟩)⟩))
    · unfold ad_pof; rw [h1]; rfl
    · unfold ad_pof; rw [h2, Bool.and_false]; rfl
    · unfold ad_pof; rw [h3, Bool.and_false]
    · show c ||| ((1 : Int32) <<< (nI i &&& 31)) = _
      rw [ad_pw (by omega), e, ad_or, ad_mk_t (f := ad_pof C g lo) (n := i) (by unfold ad_pof; rw [h1, h2, h3]; rfl)]
theorem ad_xpo {post : Int32 → Prop} {C : Nat → Nat} {x y : Int32} {l g lo : Nat} (hx : x = nI l) (hy : y = nI g) (hl : l < 256) (hg : g < 256) (hlo : ad_isl l lo) (hC : ∀ j, j < 8 → C j < 256) (hc : ∀ j, j < 8 → ct j = nI (C j)) (h : post (nI (ad_mk (ad_pof C g lo) 8))) : wpX_partOf post ((nI p), kn, gc, xa, xb, hv, fm, wk, ot, rf, gr, ct) x y := by
  subst hx hy
  show ((nI l = 0 → (post 0)) ∧ (¬ nI l = 0 → (∃ n8 : Nat, wX_partOf_8 post (nI l) (nI g) (nI p) kn gc xa xb hv fm wk ot rf gr ct n8 0)))
  refine ad_e0 rfl hl (fun z => ?_) (fun _ => ?_)
  · rw [z] at hlo
    have := hlo.2.1
    rw [Nat.zero_testBit] at this
    exact absurd this (by decide)
  · have key : ∀ d i, i + d = lo → ∃ n, wX_partOf_8 post (nI l) (nI g) (nI p) kn gc xa xb hv fm wk ot rf gr ct n (nI i) := by
      intro d
      induction d with
      | zero =>
        intro i hi
        have e : i = lo := by omega
        subst e
        refine ⟨1, ad_xb (u := ((nI p), kn, gc, xa, xb, hv, fm, wk, ot, rf, gr, ct)) rfl rfl hl (by have := hlo.1; omega) (fun hb => ?_) (fun hb => ad_po29 hg hlo.1 hC hc h)⟩
        rw [hlo.2.1] at hb; exact absurd hb (by decide)
      | succ d ih =>
        intro i hi
        obtain ⟨n, hn⟩ := ih (i + 1) (by omega)
        refine ⟨n + 1, ad_xb (u := ((nI p), kn, gc, xa, xb, hv, fm, wk, ot, rf, gr, ct)) rfl rfl hl (by have := hlo.1; omega) (fun hb => nm_r (nI_1 i) hn) (fun hb => ?_)⟩
        rw [hlo.2.2 i (by omega)] at hb; exact absurd hb (by decide)
    exact key lo 0 (by omega)
theorem ad_xpo0 {post : Int32 → Prop} {x y : Int32} (hx : x = 0) (h : post 0) : wpX_partOf post ((nI p), kn, gc, xa, xb, hv, fm, wk, ot, rf, gr, ct) x y := by
  show ((x = 0 → (post 0)) ∧ (¬ x = 0 → (∃ n8 : Nat, wX_partOf_8 post x y (nI p) kn gc xa xb hv fm wk ot rf gr ct n8 0)))
  exact br_t hx h
theorem ad_xna (G : ad_XG p A xa xb hv) {post : Int32 → Prop} {x y : Int32} {o g : Nat} (hx : x = nI o) (hy : y = nI g) (ho : o < 256) (hg : g < 256) (h : post (ad_bI (ad_fl A o g))) : wpX_isNaive post ((nI p), kn, gc, xa, xb, hv, fm, wk, ot, rf, gr, ct) x y := by
  subst hx hy
  have hA := G.1.2.1
  unfold wpX_isNaive
  refine ad_xaf G rfl ho ?_
  refine ad_e0 (s := ad_hit A o &&& o) (nx_and _ _) (ad_and_lt' _ ho) (fun z => ?_) (fun z => ?_)
  · refine loop_0 (fun n i (_ : Unit) => wX_isNaive_14 post (nI o) (nI g) (nI p) kn gc xa xb hv fm wk ot rf gr ct n (nI i)) (fun i _ => ad_al (ad_flf A o g) i = true) 8 () rfl ?_ ?_
    · intro n c hc
      have e : ad_fl A o g = true := by unfold ad_fl; rw [decide_eq_true z, hc]; rfl
      rw [e] at h
      exact br_t ad_g8 h
    · intro n i c hi hc K
      have next : ad_flf A o g i = true → wX_isNaive_14 post (nI o) (nI g) (nI p) kn gc xa xb hv fm wk ot rf gr ct n (nI (i + 1)) := fun y => K () (by rw [ad_al, hc, y]; rfl)
      refine br_f (ad_l8 hi) (ad_xb (s := ad_df g o) (ad_dfI g o) rfl (ad_df_lt o hg) (by omega) (fun hb => nm_r (nI_1 i) (next ?_)) (fun hb => ?_))
      · rw [ad_df_bit (by omega)] at hb
        unfold ad_flf; rw [hb]; rfl
      · rw [ad_df_bit (by omega)] at hb
        refine nm_r (e' := nI (o ||| 2 ^ i)) (by rw [ad_pw (by omega), ad_or]) ?_
        have hm := ad_or_lt ho (ad_pw_lt hi)
        refine ad_xaf G rfl hm ?_
        refine ad_e0 (s := ad_hit A (o ||| 2 ^ i) &&& (o ||| 2 ^ i)) (nx_and _ _) (ad_and_lt' _ hm) (fun y => ?_) (fun y => nm_r (nI_1 i) (next ?_))
        · have e : ad_fl A o g = false := by
            unfold ad_fl
            rw [ad_al_no.mpr ⟨i, hi, by unfold ad_flf; rw [hb, decide_eq_true y]; rfl⟩, Bool.and_false]
          rw [e] at h
          exact h
        · unfold ad_flf; rw [decide_eq_false y, Bool.and_false]; rfl
  · have e : ad_fl A o g = false := by unfold ad_fl; rw [decide_eq_false z, Bool.false_and]
    rw [e] at h
    exact h
/-! the parts of a group are pushed -/
theorem ad_fp76 (G : ad_XG p A xa xb hv) {post : Int32 → SX → Prop} {J : Int32 → Int32 → Int32 → (Nat → Int32) → (Nat → Int32) → (Nat → Int64) → (Nat → Int64) → (Nat → Int64) → (Nat → Int64) → (Nat → Int64) → (Nat → Int32) → (Nat → Int32) → Prop} {s g : Nat} (hs : s < 256) (hg : g < 256) (hc : ∀ j, j < 8 → ct j = nI (ad_wn A g 8 j)) :
    ∀ d, d ≤ 8 → ∀ l, l < 256 → ad_un A g l → (∀ i, i < 8 - d → l.testBit i = false) → ∀ (L : List Nat) (gr : Nat → Int32), ad_st gr L → L.length + (ad_ps A s g d l).length ≤ 63 →
    (∀ gr', ad_st gr' (L ++ ad_ps A s g d l) → J (nI p) kn (nI (L ++ ad_ps A s g d l).length) xa xb hv fm wk ot rf gr' ct) → ∃ n, wX_fitsParts_76 post J (nI s) (nI g) (nI p) kn n (nI l) (nI L.length) xa xb hv fm wk ot rf gr ct := by
  intro d
  induction d with
  | zero =>
    intro _ l hl hu h2 L gr hL _ h
    have e : l = 0 := (ad_zero hl).mpr (fun i hi => h2 i (by omega))
    subst e
    have h3 := h gr (by rw [ad_ps, List.append_nil]; exact hL)
    rw [ad_ps, List.append_nil] at h3
    exact ⟨1, br_t nI_0 h3⟩
  | succ d ih =>
    intro hd l hl hu h2 L gr hL hlen h
    cases hb : l.testBit (7 - d)
    · rw [ad_ps_f hb] at hlen h
      refine ih (by omega) l hl hu (fun i hi => ?_) L gr hL hlen h
      by_cases e : i = 7 - d
      · rw [e]; exact hb
      · exact h2 i (by omega)
    · have ha : 7 - d < 8 := by omega
      have hlo : ad_isl l (7 - d) := ⟨ha, hb, fun i hi => h2 i (by omega)⟩
      have hgl : g.testBit (7 - d) = true := hu.1 _ ha hb
      have hcr := ad_cr_lt A g (7 - d)
      rw [ad_ps_t hb, List.length_cons] at hlen
      rw [ad_ps_t hb] at h
      have hL2 : ∀ K : List Nat, L ++ ad_np A s g (7 - d) :: K = (L ++ [ad_np A s g (7 - d)]) ++ K := fun K => by rw [List.append_assoc]; rfl
      have hlen2 : (L ++ [ad_np A s g (7 - d)]).length = L.length + 1 := by rw [List.length_append]; rfl
      rw [hL2] at h
      obtain ⟨n, hn⟩ := ih (by omega) (ad_df l (ad_cr A g (7 - d))) (ad_df_lt _ hl) (ad_un_s hg hu ha) (fun i hi => by
        rw [ad_df_bit (by omega)]
        by_cases e : i = 7 - d
        · rw [e, ad_cr_self hg ha]; simp
        · rw [h2 i (by omega)]; rfl) (L ++ [ad_np A s g (7 - d)]) (upd gr L.length (nI (ad_np A s g (7 - d)))) (ad_st_push hL _) (by rw [hlen2]; omega) h
      refine ⟨n + 1, ?_⟩
      have hl0 : ¬ nI l = 0 := by
        intro e
        rw [← nI_0, nI_eq (by omega) (by omega)] at e
        rw [e, Nat.zero_testBit] at hb; exact absurd hb (by decide)
      refine br_f hl0 (ad_xpo rfl rfl hl hg hlo (ad_wn_lt hg 8 (Nat.le_refl 8)) hc ?_)
      rw [ad_crX hg ha hgl]
      refine nm_r (ad_dfI _ _) ?_
      refine ad_xaf G (s := ad_df (s &&& g) (ad_cr A g (7 - d))) (by rw [nx_and, ad_dfI]) (ad_df_lt _ (ad_and_lt _ hs)) ?_
      refine ⟨ad_in (by omega) (by decide), nm_e (nm_r (nI_1 _) ?_)⟩
      rw [ad_c (by omega), ad_dfI, ad_sh (ad_df_lt _ hcr)]
      rw [hlen2] at hn
      exact hn
/-! the whole walk over the groups -/
theorem ad_fp16 (G : ad_XG p A xa xb hv) {post : Int32 → SX → Prop} {s : Nat} (hs : s < 256) :
    ∀ n (L : List Nat), ad_M L < n → ad_M L ≤ 15 → (∀ g, g ∈ L → g < 256) → ∀ (gr ct : Nat → Int32), ad_st gr L → (∀ gc gr ct, post (ad_bI (L.all (ad_OK A s))) ((nI p), kn, gc, xa, xb, hv, fm, wk, ot, rf, gr, ct)) → wX_fitsParts_16 post (nI s) n (nI p) kn (nI L.length) xa xb hv fm wk ot rf gr ct := by
  intro n
  induction n with
  | zero => intro L h; exact absurd h (Nat.not_lt_zero _)
  | succ n ih =>
    intro L hM hM15 hL gr ct hst h
    have hlen := ad_M_len hL
    rcases ad_snoc L with e | ⟨K, g, e⟩
    · subst e
      exact br_t (by decide) (h _ gr ct)
    · subst e
      have hK : (K ++ [g]).length = K.length + 1 := by rw [List.length_append]; rfl
      have hg : g < 256 := hL g (List.mem_append_right _ (List.mem_singleton_self g))
      have hKl : ∀ x, x ∈ K → x < 256 := fun x hx => hL x (List.mem_append_left _ hx)
      obtain ⟨hgg, hstK⟩ := ad_st_pop hst
      rw [ad_M_app, ad_M_c, ad_M_0] at hM hM15
      have hmp := ad_mu_pos hg
      rw [hK] at hlen ⊢
      rw [ad_M_app, ad_M_c, ad_M_0] at hlen
      refine br_f (nI_nle (by omega) (by omega)) (nm_r (nI_pred K.length) ⟨ad_in (by omega) (by decide), nm_r (e' := nI g) (by rw [ad_c (by omega)]; exact hgg) ?_⟩)
      refine ad_xfw2 G rfl hg (fun f hf => ?_)
      have hall : (K ++ [g]).all (ad_OK A s) = (K.all (ad_OK A s) && ad_OK A s g) := by
        rw [List.all_append, List.all_cons, List.all_nil, Bool.and_true]
      have naive : ad_OK A s g = ad_fl A (s &&& g) g → wpX_isNaive (fun r_65 => (((r_65 = 0 → (post 0 ((nI p), kn, (nI K.length), xa, xb, hv, fm, wk, ot, rf, gr, f))) ∧ (¬ r_65 = 0 → (wX_fitsParts_16 post (nI s) n (nI p) kn (nI K.length) xa xb hv fm wk ot rf gr f))))) ((nI p), kn, (nI K.length), xa, xb, hv, fm, wk, ot, rf, gr, f) (nI s &&& nI g) (nI g) := by
        intro e1
        refine ad_xna G (nx_and s g) rfl (ad_and_lt _ hs) hg (ad_bb rfl (fun z => ?_) (fun z => ?_))
        · have := h (nI K.length) gr f
          rw [hall, e1, z, Bool.and_false] at this
          exact this
        · refine ih K (by omega) (by omega) hKl gr f hstK (fun gc gr ct => ?_)
          have := h gc gr ct
          rw [hall, e1, z, Bool.and_true] at this
          exact this
      by_cases g0 : g = 0
      · subst g0
        refine ad_xpo0 nI_0 (br_t nI_0.symm (naive ?_))
        rw [ad_OK0]
        have e1 : ad_fl A (s &&& 0) 0 = true := by
          unfold ad_fl
          rw [Nat.and_zero, Nat.and_zero, decide_eq_true rfl, ad_al_iff.mpr (fun i hi => by unfold ad_flf; rw [Nat.zero_testBit]; rfl)]; rfl
        exact e1.symm
      · have hlo := ad_lo_is hg g0
        refine ad_xpo rfl rfl hg hg hlo (ad_wn_lt hg 8 (Nat.le_refl 8)) hf ?_
        rw [ad_crX hg hlo.1 hlo.2.1]
        refine pk_eq (ad_cr A g (ad_lo g 8)) g (fun c => naive (ad_OK1 g0 c)) (fun c => ?_) rfl rfl (by have := ad_cr_lt A g (ad_lo g 8); omega) (by omega)
        have hdec := ad_ps_dec (s := s) hg g0 c
        have hpl : ∀ x, x ∈ ad_ps A s g 8 g → x < 256 := ad_ps_lt 8 g
        have hpl2 := ad_M_len hpl
        refine ad_fp76 G hs hg hf 8 (Nat.le_refl 8) g hg (ad_un_g A g) (fun i hi => by omega) K gr hstK (by omega) (fun gr' hst' => ?_)
        refine ih (K ++ ad_ps A s g 8 g) (by rw [ad_M_app]; omega) (by rw [ad_M_app]; omega) (fun x hx => ?_) gr' f hst' (fun gc gr ct => ?_)
        · rcases List.mem_append.mp hx with y | y
          · exact hKl x y
          · exact hpl x y
        · have := h gc gr ct
          rw [hall, ad_OK2 hg g0 c] at this
          rw [List.all_append]
          exact this
theorem ad_xfp (G : ad_XG p A xa xb hv) {post : Int32 → SX → Prop} {x : Int32} {s : Nat} (hx : x = nI s) (hs : s < 256) (h : ∀ gc gr ct, post (ad_bI (ad_OK A s p)) ((nI p), kn, gc, xa, xb, hv, fm, wk, ot, rf, gr, ct)) : wpX_fitsParts post ((nI p), kn, gc, xa, xb, hv, fm, wk, ot, rf, gr, ct) x := by
  subst hx
  have hp := G.1.1
  show ∀ g2 : Nat → Int32, g2 = upd gr 0 (vp_nar .short (nI p).toInt16.toInt32) → ∃ n16 : Nat, wX_fitsParts_16 post (nI s) n16 (nI p) kn 1 xa xb hv fm wk ot rf g2 ct
  refine nm_r (e' := upd gr 0 (nI p)) (by rw [ad_sh hp]) ?_
  have hm := ad_mu15 p
  refine ⟨16, ad_fp16 G hs 16 [p] (by rw [ad_M_c, ad_M_0]; omega) (by rw [ad_M_c, ad_M_0]; omega) (fun g hg => ?_) _ ct (ad_st_push (ad_st_nil gr) p) (fun gc gr ct => ?_)⟩
  · rw [List.mem_singleton.mp hg]; exact hp
  · rw [List.all_cons, List.all_nil, Bool.and_true]; exact h gc gr ct
theorem ad_fp25 (G : ad_XG p A xa xb hv) {post : SX → Prop} (hF : ∀ s, s < 256 → ad_xf fm 0 s = ad_f0 p A s) (h0 : ∀ s, s < 256 → ad_xf fm 44 s = false) (h : ∀ f gc gr ct, ad_P 11 (ad_f11 p A) fm f → post ((nI p), kn, gc, xa, xb, hv, f, wk, ot, rf, gr, ct)) : ∃ n, wX_findParts_25 post n 0 (nI p) kn gc xa xb hv fm wk ot rf gr ct := by
  refine loop_0 (fun n i (u : (Nat → Int64) × Int32 × (Nat → Int32) × (Nat → Int32)) => wX_findParts_25 post n (nI i) (nI p) kn u.2.1 xa xb hv u.1 wk ot rf u.2.2.1 u.2.2.2) (fun i u => (∀ s, s < 256 → ad_xf u.1 (4 * 11) s = (decide (s < i) && ad_f11 p A s)) ∧ (∀ q, q < 12 → q ≠ 11 → ∀ s, s < 256 → ad_xf u.1 (4 * q) s = ad_xf fm (4 * q) s)) 256 (fm, gc, gr, ct) ⟨fun s hs => by rw [decide_eq_false (by omega), Bool.false_and]; exact h0 s hs, fun _ _ _ _ _ => rfl⟩ ?_ ?_
  · intro n u hu
    refine br_t ad_g256 (h u.1 u.2.1 u.2.2.1 u.2.2.2 ⟨fun s hs => ?_, hu.2⟩)
    rw [hu.1 s hs, decide_eq_true hs, Bool.true_and]
  · intro n i u hi hu K
    have skip : ad_f11 p A i = false → (∀ s, s < 256 → ad_xf u.1 (4 * 11) s = (decide (s < i + 1) && ad_f11 p A s)) ∧ (∀ q, q < 12 → q ≠ 11 → ∀ s, s < 256 → ad_xf u.1 (4 * q) s = ad_xf fm (4 * q) s) := by
      intro z
      refine ⟨fun s hs => ?_, hu.2⟩
      rw [hu.1 s hs]
      by_cases e : s = i
      · rw [e, z, Bool.and_false, Bool.and_false]
      · congr 1
        exact decide_eq_decide.mpr (by omega)
    have hFi : ad_xf u.1 (4 * 0) i = ad_f0 p A i := by rw [hu.2 0 (by decide) (by decide) i hi]; exact hF i hi
    refine br_f (ad_l256 hi) (ad_xifb (k := 0) rfl rfl (by decide) hi (fun z => ?_) (fun z => ?_))
    · rw [hFi] at z
      exact nm_r (nI_1 i) (K u (skip (by unfold ad_f11; rw [z]; rfl)))
    · rw [hFi] at z
      refine ad_xfp G rfl hi (fun gc2 gr2 ct2 => ?_)
      refine ad_bb rfl (fun y => ?_) (fun y => ?_)
      · exact nm_r (nI_1 i) (K (u.1, gc2, gr2, ct2) (skip (by unfold ad_f11; rw [z, y]; rfl)))
      · rw [ad_s6 hi, show (44 : Int32) + nI (i / 64) = nI (4 * 11 + i / 64) from nI_add 44 (i / 64), ad_c (by omega)]
        refine ⟨ad_in (by omega) (by decide), ad_in (by omega) (by decide), nm_e (nm_r (nI_1 i) (K (_, gc2, gr2, ct2) ⟨fun s hs => ?_, fun q hq hqk s hs => ?_⟩))⟩
        · show ad_xf (vp_updL u.1 (4 * 11 + i / 64) _) (4 * 11) s = _
          rw [ad_or1 hi hs, hu.1 s hs, decide_eq_true rfl, Bool.true_and]
          by_cases e : s = i
          · have e11 : ad_f11 p A i = true := by unfold ad_f11; rw [z, y]; rfl
            rw [e, e11, decide_eq_true rfl, decide_eq_true (show i < i + 1 by omega)]; simp
          · rw [decide_eq_false e, Bool.or_false]
            congr 1
            exact decide_eq_decide.mpr (by omega)
        · show ad_xf (vp_updL u.1 (4 * 11 + i / 64) _) (4 * q) s = _
          rw [ad_or1 hi hs, decide_eq_false hqk, Bool.false_and, Bool.or_false]
          exact hu.2 q hq hqk s hs
theorem ad_xps (G : ad_XG p A xa xb hv) {post : SX → Prop} (hF : ∀ s, s < 256 → ad_xf fm 0 s = ad_f0 p A s) (h : ∀ f gc gr ct, ad_P 11 (ad_f11 p A) fm f → post ((nI p), kn, gc, xa, xb, hv, f, wk, ot, rf, gr, ct)) : wpX_findParts post ((nI p), kn, gc, xa, xb, hv, fm, wk, ot, rf, gr, ct) := by
  show ∃ n2 : Nat, wX_findParts_2 post (nI p) kn gc n2 0 xa xb hv fm wk ot rf gr ct
  refine loop_0 (fun n i f => wX_findParts_2 post (nI p) kn gc n (nI i) xa xb hv f wk ot rf gr ct) (fun i f => ad_FI (fun _ => false) (4 * 11) fm i f) 4 fm (ad_FI0 _ _ _) ?_ ?_
  · intro n f hf
    have hP := ad_FIP hf
    refine br_t ad_g4 (ad_fp25 G (fun s hs => ?_) (fun s hs => hP.1 s hs) (fun f2 gc gr ct h2 => h f2 gc gr ct ⟨h2.1, fun q hq hqk s hs => ?_⟩))
    · have := hP.2 0 (by decide) (by decide) s hs
      rw [Nat.mul_zero] at this
      rw [this]; exact hF s hs
    · rw [h2.2 q hq hqk s hs, hP.2 q hq hqk s hs]
  · intro n w f hw hf K
    refine br_f (ad_l4 hw) ⟨ad_ina (o := 44) (by omega) (by decide), nm_e (nm_r (nI_1 w) ?_)⟩
    rw [show (44 + nI w).toNatClampNeg = 4 * 11 + w from ad_ca (o := 44) (by omega)]
    exact K _ (ad_FIs hf hw (fun j _ => ad_w_0 j))
end XP
end
section
/-! the component's families, all -/
def ad_fam (p : Nat) (A : Nat → Nat) (k : Nat) : Nat → Bool := match k with
  | 0 => ad_f0 p A
  | 1 => ad_f1 p A
  | 2 => ad_f2 p A
  | 3 => ad_f3 p A
  | 4 => ad_f4 p A
  | 5 => ad_f5 p A
  | 6 => ad_f6 p A
  | 7 => ad_f7 p A
  | 8 => ad_f8 p A
  | 9 => ad_f9 p A
  | 10 => ad_f10 p A
  | 11 => ad_f11 p A
  | _ => fun _ => false
def ad_KN (p : Nat) (A : Nat → Nat) (l : List Nat) (fm : Nat → Int64) : Prop := ∀ k, k ∈ l → k < 12 → ∀ s, s < 256 → ad_xf fm (4 * k) s = ad_fam p A k s
theorem ad_KNs {p : Nat} {A : Nat → Nat} {l : List Nat} {fm f : Nat → Int64} {k : Nat} {F : Nat → Bool} (h : ad_KN p A l fm) (hP : ad_P k F fm f) (hF : ∀ s, s < 256 → F s = ad_fam p A k s) : ad_KN p A (k :: l) f := by
  intro m hm hm12 s hs
  by_cases e : m = k
  · subst e; rw [hP.1 s hs, hF s hs]
  · rw [hP.2 m hm12 e s hs]
    rcases List.mem_cons.mp hm with c | c
    · exact absurd c e
    · exact h m c hm12 s hs
theorem ad_KNg {p : Nat} {A : Nat → Nat} {l : List Nat} {fm : Nat → Int64} (h : ad_KN p A l fm) (k : Nat) (hk : k ∈ l) (hk2 : k < 12) : ∀ s, s < 256 → ad_xf fm (4 * k) s = ad_fam p A k s := h k hk hk2
section XA
variable {p : Nat} {A : Nat → Nat} {kn gc : Int32} {xa xb : Nat → Int32} {hv fm wk ot rf : Nat → Int64} {gr ct : Nat → Int32}
theorem ad_xfa (G : ad_XG p A xa xb hv) {post : SX → Prop} (hK : kn = 0 ∨ (kn = 1 ∧ ∀ k, k < 12 → ∀ s, s < 256 → ad_xf fm (4 * k) s = ad_fam p A k s)) (h : ∀ fm wk ot rf gc gr ct, (∀ k, k < 12 → ∀ s, s < 256 → ad_xf fm (4 * k) s = ad_fam p A k s) → post ((nI p), 1, gc, xa, xb, hv, fm, wk, ot, rf, gr, ct)) : wpX_findAll post ((nI p), kn, gc, xa, xb, hv, fm, wk, ot, rf, gr, ct) := by
  unfold wpX_findAll
  rcases hK with e | ⟨e, hf⟩
  · subst e
    refine br_t rfl ?_
    have k0 : ad_KN p A [] fm := fun k hk => absurd hk (List.not_mem_nil)
    refine ad_xsf G (fun f1 h1 => ?_)
    have k1 := ad_KNs k0 h1 (fun _ _ => rfl)
    refine ad_xsa G (fun s hs => k1 0 (by decide) (by decide) s hs) (fun f2 h2 => ?_)
    have k2 := ad_KNs k1 h2 (fun _ _ => rfl)
    refine ad_xsc G (fun s hs => k2 1 (by decide) (by decide) s hs) (fun f3 h3 => ?_)
    have k3 := ad_KNs k2 h3 (fun _ _ => rfl)
    refine ad_xss G (fun s hs => k3 0 (by decide) (by decide) s hs) (fun f4 h4 => ?_)
    have k4 := ad_KNs k3 h4 (fun _ _ => rfl)
    refine ad_xfl G (fun f5 h5 => ?_)
    have k5 := ad_KNs k4 h5 (fun _ _ => rfl)
    refine ad_xtg (k := 4) (m := 1) (F := ad_f1 p A) G rfl rfl (by decide) (by decide) (k5 1 (by decide) (by decide)) (fun f6 w6 o6 h6 => ?_)
    have k6 := ad_KNs k5 h6 (fun s hs => (ad_kg_c (fun t ht => ad_wi255 ht) hs).symm)
    refine ad_xtg (k := 8) (m := 0) (F := ad_f0 p A) G rfl rfl (by decide) (by decide) (k6 0 (by decide) (by decide)) (fun f7 w7 o7 h7 => ?_)
    have k7 := ad_KNs k6 h7 (fun s hs => (ad_kg_c (fun t ht => ad_wi255 ht) hs).symm)
    refine ad_xtw (k := 6) (m := 2) (F := ad_f2 p A) G rfl rfl (by decide) (by decide) (by decide) (k7 2 (by decide) (by decide)) (fun f8 r8 w8 o8 h8 => ?_)
    have k8 := ad_KNs k7 h8 (fun _ _ => rfl)
    refine ad_xtw (k := 7) (m := 0) (F := ad_f0 p A) G rfl rfl (by decide) (by decide) (by decide) (k8 0 (by decide) (by decide)) (fun f9 r9 w9 o9 h9 => ?_)
    have k9 := ad_KNs k8 h9 (fun _ _ => rfl)
    refine ad_xwi (k := 9) (m := 4) (F := ad_f4 p A) (H := ad_f1 p A) G rfl rfl (by decide) (by decide) (k9 4 (by decide) (by decide)) (k9 1 (by decide) (by decide)) (fun f10 w10 o10 h10 => ?_)
    have k10 := ad_KNs k9 h10 (fun _ _ => rfl)
    refine ad_xwi (k := 10) (m := 6) (F := ad_f6 p A) (H := ad_f1 p A) G rfl rfl (by decide) (by decide) (k10 6 (by decide) (by decide)) (k10 1 (by decide) (by decide)) (fun f11 w11 o11 h11 => ?_)
    have k11 := ad_KNs k10 h11 (fun _ _ => rfl)
    refine ad_xps G (fun s hs => k11 0 (by decide) (by decide) s hs) (fun f12 g12 r12 c12 h12 => ?_)
    have k12 := ad_KNs k11 h12 (fun _ _ => rfl)
    refine h f12 w11 o11 r9 g12 r12 c12 (fun k hk => k12 k ?_ hk)
    exact (by decide : ∀ k, k < 12 → k ∈ [11, 10, 9, 7, 6, 8, 4, 3, 5, 2, 1, 0]) k hk
  · subst e
    exact br_f (by decide) (h fm wk ot rf gc gr ct hf)
end XA
end
section
/-! the reference's methods that only read -/
def ad_YG (p : Nat) (A : Nat → Nat) (ya : Nat → Int32) : Prop := ad_ok p A ∧ (∀ j, j < 8 → ya j = nI (A j))
section YS
variable {p : Nat} {A : Nat → Nat} {kn wt : Int32} {ya yf yw : Nat → Int32}
theorem ad_yth {post : Int32 → Prop} {x : Int32} (hp : p < 256) (h0 : (∀ a, a < 8 → x ≠ nI a) → post 0) (h1 : ∀ a, a < 8 → x = nI a → post (ad_bI (p.testBit a))) : wpY_isThere post ((nI p), kn, wt, ya, yf, yw) x := by
  unfold wpY_isThere
  refine br_c (fun z => h0 (fun a ha e => ?_)) (fun z => ?_)
  · rw [e] at z; exact absurd z (nI_pos (by omega))
  · obtain ⟨j, hj, rfl⟩ := nI_of z
    refine pk_lt 7 j (fun y => h0 (fun a ha e => ?_)) (fun y => ?_)
    · rw [nI_eq (by omega) (by omega)] at e; omega
    · have h2 := h1 j (by omega) rfl
      refine ad_yb rfl rfl hp (by omega) (fun hb => ?_) (fun hb => ?_)
      · rw [hb] at h2; exact h2
      · rw [hb] at h2; exact h2
theorem ad_yse {post : Int32 → Prop} {x : Int32} (h0 : (∀ k, k < 12 → x ≠ nI k) → post 0) (h1 : ∀ k, k < 12 → x = nI k → post 1) : wpY_isSense post ((nI p), kn, wt, ya, yf, yw) x := by
  unfold wpY_isSense
  refine br_c (fun z => h0 (fun a ha e => ?_)) (fun z => ?_)
  · rw [e] at z; exact absurd z (nI_pos (by omega))
  · obtain ⟨j, hj, rfl⟩ := nI_of z
    refine pk_lt 11 j (fun y => h0 (fun a ha e => ?_)) (fun y => h1 j (by omega) rfl)
    rw [nI_eq (by omega) (by omega)] at e; omega
theorem ad_yat (G : ad_YG p A ya) {post : Int32 → Prop} {x : Int32} (h0 : (∀ a, a < 8 → p.testBit a = true → x ≠ nI a) → post (-1)) (h1 : ∀ a, a < 8 → x = nI a → p.testBit a = true → post (nI (ad_ak A a))) : wpY_attackers post ((nI p), kn, wt, ya, yf, yw) x := by
  unfold wpY_attackers
  refine ad_yth G.1.1 (fun z => br_t rfl (h0 (fun a ha _ => z a ha))) (fun a ha e => ad_bb rfl (fun z => h0 (fun b hb y e2 => ?_)) (fun z => ?_))
  · rw [e, nI_eq (by omega) (by omega)] at e2; subst e2; rw [z] at y; exact absurd y (by decide)
  · have h2 := h1 a ha e z
    subst e
    refine loop_0 (fun n i c => wY_attackers_14 post (nI a) (nI p) kn wt ya yf yw n c (nI i)) (fun i c => c = nI (ad_mk (ad_akf A a) i)) 8 0 nI_0.symm ?_ ?_
    · intro n c hc
      exact br_t ad_g8 (by rw [hc]; exact h2)
    · intro n i c hi hc K
      refine br_f (ad_l8 hi) ⟨ad_in hi (by decide), ad_yb (ad_cA G.2 hi (by decide)) rfl (G.1.2.1 i hi) (by omega) (fun hb => ?_) (fun hb => ?_)⟩
      · refine nm_e (nm_r (nI_1 i) (K _ ?_))
        show c ||| ((1 : Int32) <<< (nI i &&& 31)) = _
        rw [ad_pw (by omega), hc, ad_or, ad_mk_t (f := ad_akf A a) (n := i) hb]
      · exact nm_r (nI_1 i) (K c (by rw [hc, ad_mk_f (f := ad_akf A a) (n := i) hb]))
theorem ad_yhi (G : ad_YG p A ya) {post : Int32 → Prop} {x : Int32} {s : Nat} (hx : x = nI s) (hs : s < 256) (h : post (nI (ad_hit A s))) : wpY_hit post ((nI p), kn, wt, ya, yf, yw) x := by
  subst hx
  show ∃ n4 : Nat, wY_hit_4 post (nI s) (nI p) kn wt ya yf yw n4 0 0
  refine loop_0 (fun n i c => wY_hit_4 post (nI s) (nI p) kn wt ya yf yw n c (nI i)) (fun i c => c = nI (ad_ht A s i)) 8 0 nI_0.symm ?_ ?_
  · intro n c hc
    exact br_t ad_g8 (by rw [hc]; exact h)
  · intro n i c hi hc K
    refine br_f (ad_l8 hi) (ad_yb rfl rfl hs (by omega) (fun hb => ?_) (fun hb => ?_))
    · refine ⟨ad_in hi (by decide), nm_e (nm_r (nI_1 i) (K _ ?_))⟩
      show c ||| ya (nI i).toNatClampNeg = nI (ad_ht A s (i + 1))
      rw [ad_cA G.2 hi (by decide), hc, ad_or, ad_ht_t hb]
    · exact nm_r (nI_1 i) (K c (by rw [hc, ad_ht_f hb]))
theorem ad_yde (G : ad_YG p A ya) {post : Int32 → Prop} {x : Int32} {s : Nat} (hx : x = nI s) (hs : s < 256) (h : post (nI (ad_dd p A s))) : wpY_defended post ((nI p), kn, wt, ya, yf, yw) x := by
  subst hx
  unfold wpY_defended
  refine ad_yhi G rfl hs ?_
  refine loop_0 (fun n i c => wY_defended_11 post (nI (ad_hit A s)) (nI p) kn wt ya yf yw n c (nI i)) (fun i c => c = nI (ad_mk (ad_ddf p A s) i)) 8 0 nI_0.symm ?_ ?_
  · intro n c hc
    exact br_t ad_g8 (by rw [hc]; exact h)
  · intro n i c hi hc K
    refine br_f (ad_l8 hi) (ad_yth G.1.1 (fun z => absurd rfl (z i hi)) (fun a ha e => ?_))
    rw [nI_eq (by omega) (by omega)] at e
    subst e
    refine ad_bb rfl (fun hb => ?_) (fun hb => ?_)
    · exact nm_r (nI_1 i) (K c (by rw [hc, ad_mk_f (f := ad_ddf p A s) (n := i) (by unfold ad_ddf; rw [hb]; rfl)]))
    · refine ad_yat G (fun z => absurd rfl (z i hi hb)) (fun a ha e _ => ?_)
      rw [nI_eq (by omega) (by omega)] at e
      subst e
      refine ad_e0 (s := ad_df (ad_ak A i) (ad_hit A s)) (ad_dfI _ _) (ad_df_lt _ (ad_ak_lt A i)) (fun z => ?_) (fun z => ?_)
      · refine nm_e (nm_r (nI_1 i) (K _ ?_))
        show c ||| ((1 : Int32) <<< (nI i &&& 31)) = _
        rw [ad_pw (by omega), hc, ad_or, ad_mk_t (f := ad_ddf p A s) (n := i) (by unfold ad_ddf; rw [hb, decide_eq_true z]; rfl)]
      · exact nm_r (nI_1 i) (K c (by rw [hc, ad_mk_f (f := ad_ddf p A s) (n := i) (by unfold ad_ddf; rw [hb, decide_eq_false z]; rfl)]))
/-- family k of the reference -/
def ad_yF (yf : Nat → Int32) (k : Nat) (F : Nat → Bool) : Prop := ∀ s, s < 256 → yf (256 * k + s) = ad_bI (F s)
theorem ad_yc (k s : Nat) (hk : k < 12) (hs : s < 256) : (256 * nI k + nI s).toNatClampNeg = 256 * k + s := by rw [ad_i256, ad_c (by omega)]
theorem ad_yi (k s : Nat) (hk : k < 12) (hs : s < 256) : vp_in (256 * nI k + nI s) 3072 := by rw [ad_i256]; exact ad_in (by omega) (by decide)
theorem ad_yco (G : ad_YG p A ya) {post : Int32 → Prop} {x : Int32} {k : Nat} {F : Nat → Bool} (hx : x = nI k) (hk : k < 12) (hF : ad_yF yf k F) (h : post (nI (ad_cm p F 256))) : wpY_common post ((nI p), kn, wt, ya, yf, yw) x := by
  subst hx
  show ∃ n7 : Nat, wY_common_7 post (nI k) (nI p) kn wt ya yf yw n7 (nI p) 0
  refine loop_0 (fun n i c => wY_common_7 post (nI k) (nI p) kn wt ya yf yw n c (nI i)) (fun i c => c = nI (ad_cm p F i)) 256 (nI p) rfl ?_ ?_
  · intro n c hc
    exact br_t ad_g256 (by rw [hc]; exact h)
  · intro n i c hi hc K
    refine br_f (ad_l256 hi) ⟨ad_yi k i hk hi, ad_bb (b := F i) (by rw [ad_yc k i hk hi]; exact hF i hi) (fun z => ?_) (fun z => ?_)⟩
    · exact nm_r (nI_1 i) (K c (by rw [hc, ad_cm_f z]))
    · refine nm_e (nm_r (nI_1 i) (K _ ?_))
      show c &&& nI i = _
      rw [hc, nx_and, ad_cm_t z]
theorem ad_rcI (s : Nat) : nI s ||| nI (ad_hit A s) = nI (ad_rc A s) := ad_or _ _
theorem ad_rcl (G : ad_YG p A ya) {s : Nat} (hs : s < 256) : ad_rc A s < 256 := ad_or_lt hs (ad_hit_lt s G.1.2.1)
theorem ad_ygr (G : ad_YG p A ya) {post : Int32 → Prop} {x y : Int32} {k s : Nat} {F : Nat → Bool} (hx : x = nI k) (hy : y = nI s) (hk : k < 12) (hs : s < 256) (hF : ad_yF yf k F) (h : post (ad_bI (ad_gr F (ad_rc A) s))) : wpY_isGreatest post ((nI p), kn, wt, ya, yf, yw) x y 1 := by
  subst hx hy
  unfold wpY_isGreatest
  refine br_f (by decide) (ad_yhi G rfl hs (nm_r (ad_rcI s) ?_))
  refine loop_0 (fun n i (_ : Unit) => wY_isGreatest_20 post (nI k) 1 (nI (ad_rc A s)) (nI p) kn wt ya yf yw n (nI i)) (fun i _ => ∀ t, t < i → (F t && decide (ad_rc A t ≠ ad_rc A s) && decide (ad_df (ad_rc A s) (ad_rc A t) = 0)) = false) 256 () (fun t ht => by omega) ?_ ?_
  · intro n c hc
    have e : ad_gr F (ad_rc A) s = true := by
      unfold ad_gr
      rw [ad_al_iff]
      intro t ht
      rw [hc t ht]; rfl
    rw [e] at h
    exact br_t ad_g256 h
  · intro n i c hi hc K
    have next : (F i && decide (ad_rc A i ≠ ad_rc A s) && decide (ad_df (ad_rc A s) (ad_rc A i) = 0)) = false → wY_isGreatest_20 post (nI k) 1 (nI (ad_rc A s)) (nI p) kn wt ya yf yw n (nI (i + 1)) := fun z => K () (fun t ht => by
      by_cases e : t = i
      · rw [e]; exact z
      · exact hc t (by omega))
    have hr := ad_rcl G hi
    have hr2 := ad_rcl G hs
    refine br_f (ad_l256 hi) (br_f (by decide) (ad_yhi G rfl hi ?_))
    rw [ad_rcI]
    unfold wY_isGreatest_46
    refine ⟨ad_yi k i hk hi, ad_bb (b := F i) (by rw [ad_yc k i hk hi]; exact hF i hi) (fun z => nm_r (nI_1 i) (next ?_)) (fun z => pk_eq (ad_rc A i) (ad_rc A s) (fun e => nm_r (nI_1 i) (next ?_)) (fun e => ad_e0 (s := ad_df (ad_rc A s) (ad_rc A i)) (ad_dfI _ _) (ad_df_lt _ hr2) (fun y => ?_) (fun y => nm_r (nI_1 i) (next ?_))))⟩
    · rw [z]; rfl
    · rw [decide_eq_false (fun c => c e), Bool.and_false]; rfl
    · have e2 : ad_gr F (ad_rc A) s = false := by
        unfold ad_gr
        rw [ad_al_no]
        exact ⟨i, hi, by rw [z, decide_eq_true e, decide_eq_true y]; rfl⟩
      rw [e2] at h
      exact h
    · rw [decide_eq_false y, Bool.and_false]
theorem ad_yis {post : Int32 → Prop} {x : Int32} (hp : p < 256) (h0 : (∀ s, s < 256 → ad_le s p → x ≠ nI s) → post 0) (h1 : ∀ s, s < 256 → x = nI s → ad_le s p → post 1) : wpY_isSet post ((nI p), kn, wt, ya, yf, yw) x := by
  unfold wpY_isSet
  refine br_c (fun z => h0 (fun a ha _ e => ?_)) (fun z => ?_)
  · rw [e] at z; exact absurd z (nI_pos (by omega))
  · obtain ⟨j, hj, rfl⟩ := nI_of z
    refine pk_lt 255 j (fun y => h0 (fun a ha _ e => ?_)) (fun y => ?_)
    · rw [nI_eq (by omega) (by omega)] at e; omega
    · refine ad_e0 (s := ad_df j p) (ad_dfI _ _) (ad_df_lt _ (by omega)) (fun e => h1 j (by omega) rfl ((ad_df0 (by omega)).mp e)) (fun e => h0 (fun a ha hl e2 => e ?_))
      rw [nI_eq (by omega) (by omega)] at e2
      subst e2
      exact (ad_df0 ha).mpr hl
/-! what one comes to, circles -/
theorem ad_yct (G : ad_YG p A ya) {post : Int32 → Prop} {x y : Int32} {a g : Nat} (hx : x = nI a) (hy : y = nI g) (ha : a < 8) (hg : g < 256) (h : post (nI (ad_ct A g a 8))) : wpY_comeTo post ((nI p), kn, wt, ya, yf, yw) x y := by
  subst hx hy
  show ∀ x3_1 : Int32, x3_1 = (1 : Int32) <<< (nI a &&& 31) → ∃ n7 : Nat, wY_comeTo_7 post (nI g) (nI p) kn wt ya yf yw n7 x3_1 0
  refine nm_r (ad_pw (by omega)) ?_
  refine loop_0 (fun n i c => wY_comeTo_7 post (nI g) (nI p) kn wt ya yf yw n c (nI i)) (fun i c => c = nI (ad_ct A g a i)) 8 (nI (2 ^ a)) rfl ?_ ?_
  · intro n c hc
    exact br_t ad_g8 (by rw [hc]; exact h)
  · intro n i c hi hc K
    refine br_f (ad_l8 hi) (ad_yhi G hc (ad_ct_lt hg ha i) (nm_e (nm_r (nI_1 i) (K _ ?_))))
    show c ||| (nI (ad_hit A (ad_ct A g a i)) &&& nI g) = _
    rw [hc, nx_and, ad_or]; rfl
theorem ad_ycr (G : ad_YG p A ya) {post : Int32 → Prop} {x y : Int32} {a g : Nat} (hx : x = nI a) (hy : y = nI g) (ha : a < 8) (hg : g < 256) (h : post (nI (ad_cr A g a))) : wpY_circle post ((nI p), kn, wt, ya, yf, yw) x y := by
  subst hx hy
  unfold wpY_circle
  refine ad_yct G rfl rfl ha hg ?_
  refine loop_0 (fun n i c => wY_circle_13 post (nI a) (nI g) (nI (ad_ct A g a 8)) (nI p) kn wt ya yf yw n c (nI i)) (fun i c => c = nI (ad_mk (ad_crf A g a) i)) 8 0 nI_0.symm ?_ ?_
  · intro n c hc
    exact br_t ad_g8 (by rw [hc]; exact h)
  · intro n i c hi hc K
    refine br_f (ad_l8 hi) (ad_yb rfl rfl (ad_ct_lt hg ha 8) (by omega) (fun hb => ad_yct G rfl rfl hi hg (ad_yb rfl rfl (ad_ct_lt hg hi 8) (by omega) (fun hd => nm_e (nm_r (nI_1 i) (K _ ?_))) (fun hd => nm_r (nI_1 i) (K c ?_)))) (fun hb => nm_r (nI_1 i) (K c ?_)))
    · show c ||| ((1 : Int32) <<< (nI i &&& 31)) = _
      rw [ad_pw (by omega), hc, ad_or, ad_mk_t (f := ad_crf A g a) (n := i) (by unfold ad_crf; rw [hb, hd]; rfl)]
    · rw [hc, ad_mk_f (f := ad_crf A g a) (n := i) (by unfold ad_crf; rw [hd, Bool.and_false])]
    · rw [hc, ad_mk_f (f := ad_crf A g a) (n := i) (by unfold ad_crf; rw [hb, Bool.false_and])]
theorem ad_orp {o i : Nat} (ho : o < 256) (hi : i < 8) : (o ||| 2 ^ i = o) ↔ o.testBit i = true := by
  constructor
  · intro h
    rw [← h, Nat.testBit_or, Nat.testBit_two_pow, decide_eq_true rfl, Bool.or_true]
  · intro h
    refine ad_ext (ad_or_lt ho (ad_pw_lt hi)) ho (fun j hj => ?_)
    rw [Nat.testBit_or, Nat.testBit_two_pow]
    by_cases e : i = j
    · subst e; rw [h]; rfl
    · rw [decide_eq_false e, Bool.or_false]
theorem ad_yfu (G : ad_YG p A ya) {post : Int32 → Prop} {x y : Int32} {s g : Nat} (hx : x = nI s) (hy : y = nI g) (hs : s < 256) (hg : g < 256) (h : post (ad_bI (ad_fl A (s &&& g) g))) : wpY_isFull post ((nI p), kn, wt, ya, yf, yw) x y := by
  subst hx hy
  have hA := G.1.2.1
  have ho : s &&& g < 256 := ad_and_lt _ hs
  unfold wpY_isFull
  refine nm_r (nx_and s g) ?_
  generalize s &&& g = o at h ho
  refine ad_yhi G rfl ho ?_
  refine ad_e0 (s := ad_hit A o &&& o) (nx_and _ _) (ad_and_lt' _ ho) (fun z => ?_) (fun z => ?_)
  · refine loop_0 (fun n i (_ : Unit) => wY_isFull_19 post (nI g) (nI o) (nI p) kn wt ya yf yw n (nI i)) (fun i _ => ad_al (ad_flf A o g) i = true) 8 () rfl ?_ ?_
    · intro n c hc
      have e : ad_fl A o g = true := by unfold ad_fl; rw [decide_eq_true z, hc]; rfl
      rw [e] at h
      exact br_t ad_g8 h
    · intro n i c hi hc K
      have next : ad_flf A o g i = true → wY_isFull_19 post (nI g) (nI o) (nI p) kn wt ya yf yw n (nI (i + 1)) := fun y => K () (by rw [ad_al, hc, y]; rfl)
      have hm := ad_or_lt ho (ad_pw_lt hi)
      refine br_f (ad_l8 hi) (nm_r (e' := nI (o ||| 2 ^ i)) (by rw [ad_pw (by omega), ad_or]) ?_)
      refine ad_yb rfl rfl hg (by omega) (fun hb => pk_eq (o ||| 2 ^ i) o (fun e => nm_r (nI_1 i) (next ?_)) (fun e => ?_)) (fun hb => nm_r (nI_1 i) (next ?_))
      · unfold ad_flf; rw [(ad_orp ho hi).mp e]; simp
      · have ob : o.testBit i = false := by
          cases hc2 : o.testBit i
          · rfl
          · exact absurd ((ad_orp ho hi).mpr hc2) e
        refine ad_yhi G rfl hm ?_
        refine ad_e0 (s := ad_hit A (o ||| 2 ^ i) &&& (o ||| 2 ^ i)) (nx_and _ _) (ad_and_lt' _ hm) (fun y => ?_) (fun y => nm_r (nI_1 i) (next ?_))
        · have e : ad_fl A o g = false := by
            unfold ad_fl
            rw [ad_al_no.mpr ⟨i, hi, by unfold ad_flf; rw [hb, ob, decide_eq_true y]; rfl⟩, Bool.and_false]
          rw [e] at h
          exact h
        · unfold ad_flf; rw [decide_eq_false y, Bool.and_false]; rfl
      · unfold ad_flf; rw [hb]; rfl
  · have e : ad_fl A o g = false := by unfold ad_fl; rw [decide_eq_false z, Bool.false_and]
    rw [e] at h
    exact h
end YS
end
section
/-! the reference's greatest sets and parts -/
/-- family m is F, the other families are as before -/
def ad_yP (m : Nat) (F : Nat → Bool) (yf f : Nat → Int32) : Prop := (∀ s, s < 256 → f (256 * m + s) = ad_bI (F s)) ∧ (∀ q, q < 12 → q ≠ m → ∀ s, s < 256 → f (256 * q + s) = yf (256 * q + s))
theorem ad_yu {f : Nat → Int32} {q i k t : Nat} {x : Int32} (ht : t < 256) (hi : i < 256) (h : t ≠ i ∨ k ≠ q) : upd f (256 * q + i) x (256 * k + t) = f (256 * k + t) := pk_un (by omega)
def ad_ne (c : Nat) : List Nat := if c = 0 then [] else [c]
def ad_fi : List Nat → List Nat
  | [] => []
  | c :: L => ad_ne c ++ ad_fi L
theorem ad_ne_0 : ad_ne 0 = [] := rfl
theorem ad_ne_n {c : Nat} (h : c ≠ 0) : ad_ne c = [c] := if_neg h
theorem ad_ne_M (c : Nat) : ad_M (ad_ne c) ≤ ad_mu c := by
  by_cases h : c = 0
  · rw [h, ad_ne_0, ad_M_0]; omega
  · rw [ad_ne_n h, ad_M_c, ad_M_0]; omega
theorem ad_ne_len (c : Nat) : (ad_ne c).length ≤ 1 := by
  by_cases h : c = 0
  · rw [h, ad_ne_0]; decide
  · rw [ad_ne_n h]; exact Nat.le_refl 1
theorem ad_ne_mem {c x : Nat} (h : x ∈ ad_ne c) : x = c ∧ x ≠ 0 := by
  by_cases e : c = 0
  · rw [e, ad_ne_0] at h; exact absurd h (List.not_mem_nil)
  · rw [ad_ne_n e] at h
    have := List.mem_singleton.mp h
    exact ⟨this, by rw [this]; exact e⟩
theorem ad_fi_M (L : List Nat) : ad_M (ad_fi L) ≤ ad_M L := by
  induction L with
  | nil => exact Nat.le_refl _
  | cons c L ih =>
    rw [ad_fi, ad_M_app, ad_M_c]
    have := ad_ne_M c
    omega
theorem ad_fi_len (L : List Nat) : (ad_fi L).length ≤ L.length := by
  induction L with
  | nil => exact Nat.le_refl _
  | cons c L ih =>
    rw [ad_fi, List.length_append, List.length_cons]
    have := ad_ne_len c
    omega
theorem ad_fi_mem {L : List Nat} {x : Nat} (h : x ∈ ad_fi L) : x ∈ L ∧ x ≠ 0 := by
  induction L with
  | nil => exact absurd h (List.not_mem_nil)
  | cons c L ih =>
    rw [ad_fi] at h
    rcases List.mem_append.mp h with y | y
    · have := ad_ne_mem y
      exact ⟨by rw [this.1]; exact List.mem_cons_self .., this.2⟩
    · exact ⟨List.mem_cons_of_mem _ (ih y).1, (ih y).2⟩
theorem ad_ne_all {f : Nat → Bool} (h : f 0 = true) (c : Nat) : (ad_ne c).all f = f c := by
  by_cases e : c = 0
  · rw [e, ad_ne_0, h]; rfl
  · rw [ad_ne_n e, List.all_cons, List.all_nil, Bool.and_true]
theorem ad_fi_all {f : Nat → Bool} (h : f 0 = true) (L : List Nat) : (ad_fi L).all f = L.all f := by
  induction L with
  | nil => rfl
  | cons c L ih => rw [ad_fi, List.all_append, ad_ne_all h, ih, List.all_cons]
section YP
variable {p : Nat} {A : Nat → Nat} {kn wt : Int32} {ya yf yw : Nat → Int32}
def ad_kgf (W : Nat → Bool) (s t : Nat) : Bool := !(W t && decide (t ≠ s) && decide (ad_df s t = 0))
theorem ad_kg_e (W : Nat → Bool) (s : Nat) : ad_kg W s = (W s && ad_al (ad_kgf W s) 256) := rfl
theorem ad_ykg46 {post : SY → Prop} {J : Int32 → (Nat → Int32) → (Nat → Int32) → (Nat → Int32) → Prop} {k m w s : Nat} {F : Nat → Bool} {c0 : Int32} (hk : k < 12) (hm : m < 12) (hs : s < 256) (hF : ad_yF yf k F) (hc0 : c0 = ad_bI (ad_wi F w s))
    (h : J (nI (s + 1)) ya (upd yf (256 * m + s) (ad_bI (ad_kg (ad_wi F w) s))) yw) : ∃ n, wY_keepGreatest_46 post J (nI k) (nI m) (nI w) (nI s) (nI p) kn wt ya yf yw n c0 0 := by
  have fin : ∀ c : Int32, c = ad_bI (ad_kg (ad_wi F w) s) → wY_keepGreatest_110 post J (nI k) (nI m) (nI w) (nI s) c (nI p) kn wt ya yf yw := by
    intro c hc
    unfold wY_keepGreatest_110
    refine ⟨ad_yi m s hm hs, nm_e (nm_r (nI_1 s) ?_)⟩
    rw [ad_yc m s hm hs, hc, ad_bIn]
    exact h
  refine loop_0 (fun n i c => wY_keepGreatest_46 post J (nI k) (nI m) (nI w) (nI s) (nI p) kn wt ya yf yw n c (nI i)) (fun i c => c = ad_bI (ad_wi F w s && ad_al (ad_kgf (ad_wi F w) s) i)) 256 c0 (by rw [ad_al, Bool.and_true]; exact hc0) ?_ ?_
  · intro n c hc
    exact br_t ad_g256 (fin c hc)
  · intro n i c hi hc K
    refine br_f (ad_l256 hi) (ad_bb hc (fun z => fin c ?_) (fun z => ?_))
    · rw [hc, z]
      congr 1
      rw [ad_kg_e]
      rcases Bool.and_eq_false_iff.mp z with y | y
      · rw [y]; rfl
      · rw [ad_al_no] at y
        obtain ⟨t, ht, y2⟩ := y
        rw [ad_al_no.mpr ⟨t, by omega, y2⟩, Bool.and_false]
    · have z2 := (Bool.and_eq_true _ _).mp z
      have next : ∀ d : Int32, d = ad_bI (ad_kgf (ad_wi F w) s i) → wY_keepGreatest_46 post J (nI k) (nI m) (nI w) (nI s) (nI p) kn wt ya yf yw n d (nI (i + 1)) := fun d y => K d (by rw [y, ad_al, z2.1, z2.2, Bool.true_and, Bool.true_and])
      have c1 : c = 1 := by rw [hc, z]; rfl
      have keep : ad_kgf (ad_wi F w) s i = true → wY_keepGreatest_46 post J (nI k) (nI m) (nI w) (nI s) (nI p) kn wt ya yf yw n c (nI (i + 1)) := fun y => next c (by rw [y]; exact c1)
      refine ⟨ad_yi k i hk hi, ad_bb (b := F i) (by rw [ad_yc k i hk hi]; exact hF i hi) (fun y => nm_r (nI_1 i) (keep ?_)) (fun y => ad_e0 (s := ad_df i w) (ad_dfI _ _) (ad_df_lt _ hi) (fun y2 => pk_eq i s (fun y3 => nm_r (nI_1 i) (keep ?_)) (fun y3 => ad_e0 (s := ad_df s i) (ad_dfI _ _) (ad_df_lt _ hs) (fun y4 => nm_r (nI_1 i) (next 0 ?_)) (fun y4 => nm_r (nI_1 i) (keep ?_)))) (fun y2 => nm_r (nI_1 i) (keep ?_)))⟩
      · unfold ad_kgf ad_wi; rw [y]; rfl
      · unfold ad_kgf; rw [decide_eq_false (fun c => c y3), Bool.and_false]; rfl
      · unfold ad_kgf ad_wi; rw [y, decide_eq_true y2, decide_eq_true y3, decide_eq_true y4]; rfl
      · unfold ad_kgf; rw [decide_eq_false y4, Bool.and_false]; rfl
      · unfold ad_kgf ad_wi; rw [decide_eq_false y2, Bool.and_false]; rfl
theorem ad_ykg {post : SY → Prop} {x y z : Int32} {k m w : Nat} {F : Nat → Bool} (hx : x = nI k) (hy : y = nI m) (hz : z = nI w) (hk : k < 12) (hm : m < 12) (hkm : k ≠ m) (hF : ad_yF yf k F) (h : ∀ f, ad_yP m (ad_kg (ad_wi F w)) yf f → post ((nI p), kn, wt, ya, f, yw)) : wpY_keepGreatest post ((nI p), kn, wt, ya, yf, yw) x y z := by
  subst hx hy hz
  show ∃ n3 : Nat, wY_keepGreatest_3 post (nI k) (nI m) (nI w) (nI p) kn wt n3 0 ya yf yw
  refine loop_0 (fun n i f => wY_keepGreatest_3 post (nI k) (nI m) (nI w) (nI p) kn wt n (nI i) ya f yw) (fun i f => (∀ s, s < i → f (256 * m + s) = ad_bI (ad_kg (ad_wi F w) s)) ∧ (∀ q, q < 12 → q ≠ m → ∀ s, s < 256 → f (256 * q + s) = yf (256 * q + s))) 256 yf ⟨fun s hs => by omega, fun _ _ _ _ _ => rfl⟩ ?_ ?_
  · intro n f hf
    exact br_t ad_g256 (h f hf)
  · intro n i f hi hf K
    have hFf : ad_yF f k F := fun s hs => by rw [hf.2 k hk hkm s hs]; exact hF s hs
    have step := K (upd f (256 * m + i) (ad_bI (ad_kg (ad_wi F w) i))) ⟨fun s hs => by
        by_cases e : s = i
        · rw [e, pk_us]
        · rw [ad_yu (by omega) hi (Or.inl e)]; exact hf.1 s (by omega), fun q hq hqm s hs => by
        rw [ad_yu hs hi (Or.inr hqm)]; exact hf.2 q hq hqm s hs⟩
    refine br_f (ad_l256 hi) ⟨ad_yi k i hk hi, ad_bb (b := F i) (by rw [ad_yc k i hk hi]; exact hFf i hi) (fun y => ?_) (fun y => ad_e0 (s := ad_df i w) (ad_dfI _ _) (ad_df_lt _ hi) (fun y2 => ?_) (fun y2 => ?_))⟩
    · exact ad_ykg46 hk hm hi hFf (by unfold ad_wi; rw [y]; rfl) step
    · exact ad_ykg46 hk hm hi hFf (by unfold ad_wi; rw [y, decide_eq_true y2]; rfl) step
    · exact ad_ykg46 hk hm hi hFf (by unfold ad_wi; rw [decide_eq_false y2, Bool.and_false]; rfl) step
/-! the waiting groups -/
theorem ad_ypu {post : SY → Prop} {L : List Nat} {x : Int32} {c : Nat} (hst : ad_st yw L) (hl : L.length < 16) (hx : x = nI c) (hc : c < 256) (h : ∀ yw', ad_st yw' (L ++ ad_ne c) → post ((nI p), kn, (nI (L ++ ad_ne c).length), ya, yf, yw')) : wpY_push post ((nI p), kn, (nI L.length), ya, yf, yw) x := by
  unfold wpY_push
  refine ad_e0 hx hc (fun z => ?_) (fun z => ?_)
  · have h2 := h yw (by rw [z, ad_ne_0, List.append_nil]; exact hst)
    rw [z, ad_ne_0, List.append_nil] at h2
    exact h2
  · have h2 := h (upd yw L.length (nI c)) (by rw [ad_ne_n z]; exact ad_st_push hst c)
    rw [ad_ne_n z, List.length_append] at h2
    refine ⟨ad_in hl (by decide), nm_e (nm_r (nI_1 _) ?_)⟩
    rw [ad_c (by omega), hx]
    exact h2
theorem ad_ypt5 (G : ad_YG p A ya) {post : SY → Prop} {s g : Nat} (hs : s < 256) (hg : g < 256) :
    ∀ d, d ≤ 8 → ∀ l, l < 256 → ∀ (L : List Nat) (yw : Nat → Int32), ad_st yw L → L.length + (ad_ps A s g d l).length ≤ 15 →
    (∀ yw', ad_st yw' (L ++ ad_fi (ad_ps A s g d l)) → post ((nI p), kn, (nI (L ++ ad_fi (ad_ps A s g d l)).length), ya, yf, yw')) → ∃ n, wY_part_5 post (nI s) (nI g) n (nI l) (nI (8 - d)) (nI p) kn (nI L.length) ya yf yw := by
  intro d
  induction d with
  | zero =>
    intro _ l hl L yw hst _ h
    have h2 := h yw (by rw [ad_ps, ad_fi, List.append_nil]; exact hst)
    rw [ad_ps, ad_fi, List.append_nil] at h2
    exact ⟨1, br_t ad_g8 h2⟩
  | succ d ih =>
    intro hd l hl L yw hst hlen h
    have ha : 7 - d < 8 := by omega
    have e8 : 8 - (d + 1) = 7 - d := by omega
    have e9 : nI (7 - d) + 1 = nI (8 - d) := by rw [nI_1]; exact congrArg nI (by omega)
    rw [e8]
    cases hb : l.testBit (7 - d)
    · rw [ad_ps_f hb] at hlen h
      obtain ⟨n, hn⟩ := ih (by omega) l hl L yw hst hlen h
      refine ⟨n + 1, br_f (ad_l8 ha) (ad_yb rfl rfl hl (by omega) (fun hc => ?_) (fun _ => nm_r e9 hn))⟩
      rw [hb] at hc; exact absurd hc (by decide)
    · rw [ad_ps_t hb, List.length_cons] at hlen
      rw [ad_ps_t hb, ad_fi, ← List.append_assoc] at h
      have hne := ad_ne_len (ad_np A s g (7 - d))
      have hlen2 : (L ++ ad_ne (ad_np A s g (7 - d))).length ≤ L.length + 1 := by rw [List.length_append]; omega
      have hn : ∀ yw', ad_st yw' (L ++ ad_ne (ad_np A s g (7 - d))) → ∃ n, wY_part_5 post (nI s) (nI g) n (nI (ad_df l (ad_cr A g (7 - d)))) (nI (8 - d)) (nI p) kn (nI (L ++ ad_ne (ad_np A s g (7 - d))).length) ya yf yw' := fun yw' hst' => ih (by omega) _ (ad_df_lt _ hl) _ yw' hst' (by omega) h
      by_cases z : ad_np A s g (7 - d) = 0
      · rw [z, ad_ne_0, List.append_nil] at hn
        obtain ⟨n, hn2⟩ := hn yw hst
        refine ⟨n + 1, br_f (ad_l8 ha) (ad_yb rfl rfl hl (by omega) (fun _ => ?_) (fun hc => ?_))⟩
        · refine ad_ycr G rfl rfl ha hg (ad_yhi G (s := ad_df (s &&& g) (ad_cr A g (7 - d))) (by rw [nx_and, ad_dfI]) (ad_df_lt _ (ad_and_lt _ hs)) ?_)
          unfold wpY_push
          refine br_t (by rw [ad_dfI]; exact (congrArg nI z).trans nI_0) ?_
          exact nm_r (ad_dfI _ _) (nm_r e9 hn2)
        · rw [hb] at hc; exact absurd hc (by decide)
      · have hst2 : ad_st (upd yw L.length (nI (ad_np A s g (7 - d)))) (L ++ ad_ne (ad_np A s g (7 - d))) := by rw [ad_ne_n z]; exact ad_st_push hst _
        obtain ⟨n, hn2⟩ := hn _ hst2
        have hl1 : (L ++ ad_ne (ad_np A s g (7 - d))).length = L.length + 1 := by rw [ad_ne_n z, List.length_append]; rfl
        rw [hl1] at hn2
        refine ⟨n + 1, br_f (ad_l8 ha) (ad_yb rfl rfl hl (by omega) (fun _ => ?_) (fun hc => ?_))⟩
        · refine ad_ycr G rfl rfl ha hg (ad_yhi G (s := ad_df (s &&& g) (ad_cr A g (7 - d))) (by rw [nx_and, ad_dfI]) (ad_df_lt _ (ad_and_lt _ hs)) ?_)
          unfold wpY_push
          have enp : nI (ad_cr A g (7 - d)) &&& (nI (ad_hit A (ad_df (s &&& g) (ad_cr A g (7 - d)))) ^^^ (-1)) = nI (ad_np A s g (7 - d)) := ad_dfI _ _
          have hnp := ad_np_lt A s g (7 - d)
          refine br_f (by rw [enp]; exact nI_ne0 (by omega) (by omega)) ⟨ad_in (by omega) (by decide), nm_e (nm_r (nI_1 _) ?_)⟩
          rw [enp, ad_c (by omega)]
          exact nm_r (ad_dfI _ _) (nm_r e9 hn2)
        · rw [hb] at hc; exact absurd hc (by decide)
theorem ad_ypt (G : ad_YG p A ya) {post : SY → Prop} {x y : Int32} {s g : Nat} {L : List Nat} (hx : x = nI s) (hy : y = nI g) (hs : s < 256) (hg : g < 256) (hst : ad_st yw L) (hlen : L.length + (ad_ps A s g 8 g).length ≤ 15)
    (h : ∀ yw', ad_st yw' (L ++ ad_fi (ad_ps A s g 8 g)) → post ((nI p), kn, (nI (L ++ ad_fi (ad_ps A s g 8 g)).length), ya, yf, yw')) : wpY_part post ((nI p), kn, (nI L.length), ya, yf, yw) x y := by
  subst hx hy
  show ∃ n5 : Nat, wY_part_5 post (nI s) (nI g) n5 (nI g) 0 (nI p) kn (nI L.length) ya yf yw
  exact ad_ypt5 G hs hg 8 (Nat.le_refl 8) g hg L yw hst hlen h
/-- the lowest so far, from 7 down to i -/
def ad_Q (g i b : Nat) : Prop := (b < 8 ∧ g.testBit b = true ∧ i ≤ b ∧ ∀ j, i ≤ j → j < b → g.testBit j = false) ∨ (b = 0 ∧ ∀ j, i ≤ j → j < 8 → g.testBit j = false)
theorem ad_ye55 {post : Int32 → SY → Prop} {J : Int32 → Int32 → Int32 → Int32 → (Nat → Int32) → (Nat → Int32) → (Nat → Int32) → Prop} {x1 x2 : Int32} {g : Nat} (hg : g < 256) (h0 : g ≠ 0)
    (h : ∀ n, wY_isEleventh_55 post J x1 x2 (nI g) (nI p) kn wt ya yf yw (n + 1) (nI (ad_lo g 8)) (-1)) : ∃ n, wY_isEleventh_55 post J x1 x2 (nI g) (nI p) kn wt ya yf yw n 0 7 := by
  have key : ∀ i, i ≤ 8 → ∀ b, ad_Q g i b → ∃ n, wY_isEleventh_55 post J x1 x2 (nI g) (nI p) kn wt ya yf yw n (nI b) (nI i + (-1)) := by
    intro i
    induction i with
    | zero =>
      intro _ b hb
      have e : b = ad_lo g 8 := by
        refine ad_isl_u (l := g) ?_ (ad_lo_is hg h0)
        rcases hb with ⟨h1, h2, _, h4⟩ | ⟨_, h2⟩
        · exact ⟨h1, h2, fun i hi => h4 i (Nat.zero_le i) hi⟩
        · obtain ⟨j, hj, h3⟩ := ad_nz hg h0
          rw [h2 j (Nat.zero_le j) hj] at h3; exact absurd h3 (by decide)
      rw [e]
      exact ⟨1, h 0⟩
    | succ i ih =>
      intro hi b hb
      rw [pk_m1]
      cases hbit : g.testBit i
      · obtain ⟨n, hn⟩ := ih (by omega) b (by
          rcases hb with ⟨h1, h2, h3, h4⟩ | ⟨h1, h2⟩
          · refine Or.inl ⟨h1, h2, by omega, fun j hj hjb => ?_⟩
            by_cases e : j = i
            · rw [e]; exact hbit
            · exact h4 j (by omega) hjb
          · refine Or.inr ⟨h1, fun j hj hj8 => ?_⟩
            by_cases e : j = i
            · rw [e]; exact hbit
            · exact h2 j (by omega) hj8)
        refine ⟨n + 1, br_f (nI_pos (by omega)) (ad_yb rfl rfl hg (by omega) (fun hc => ?_) (fun _ => nm_e hn))⟩
        rw [hbit] at hc; exact absurd hc (by decide)
      · obtain ⟨n, hn⟩ := ih (by omega) i (Or.inl ⟨by omega, hbit, Nat.le_refl i, fun j hj hji => by omega⟩)
        refine ⟨n + 1, br_f (nI_pos (by omega)) (ad_yb rfl rfl hg (by omega) (fun _ => nm_e hn) (fun hc => ?_))⟩
        rw [hbit] at hc; exact absurd hc (by decide)
  have e7 : nI 8 + (-1) = 7 := pk_m1 7
  have k8 := key 8 (Nat.le_refl 8) 0 (Or.inr ⟨rfl, fun j hj hj8 => by omega⟩)
  rw [e7] at k8
  exact k8
theorem ad_ye15 (G : ad_YG p A ya) {post : Int32 → SY → Prop} {s : Nat} (hs : s < 256) :
    ∀ n (L : List Nat) (st : Nat), ad_M L < n → ad_M L + st ≤ 15 → (∀ g, g ∈ L → g < 256 ∧ g ≠ 0) → ∀ yw : Nat → Int32, ad_st yw L → (∀ wt yw, post (ad_bI (L.all (ad_OK A s))) ((nI p), kn, wt, ya, yf, yw)) → wY_isEleventh_15 post (nI s) n (nI st) (nI p) kn (nI L.length) ya yf yw := by
  intro n
  induction n with
  | zero => intro L st h; exact absurd h (Nat.not_lt_zero _)
  | succ n ih =>
    intro L st hM hM15 hL yw hst h
    have hlen := ad_M_len (fun g hg => (hL g hg).1)
    rcases ad_snoc L with e | ⟨K, g, e⟩
    · subst e
      exact br_f (ad_l64 (by omega)) (br_t (by decide) (h _ yw))
    · subst e
      have hK : (K ++ [g]).length = K.length + 1 := by rw [List.length_append]; rfl
      obtain ⟨hg, g0⟩ := hL g (List.mem_append_right _ (List.mem_singleton_self g))
      have hKl : ∀ x, x ∈ K → x < 256 ∧ x ≠ 0 := fun x hx => hL x (List.mem_append_left _ hx)
      obtain ⟨hgg, hstK⟩ := ad_st_pop hst
      rw [ad_M_app, ad_M_c, ad_M_0] at hM hM15 hlen
      have hmp := ad_mu_pos hg
      rw [hK] at hlen ⊢
      have hlo := ad_lo_is hg g0
      have hall : (K ++ [g]).all (ad_OK A s) = (K.all (ad_OK A s) && ad_OK A s g) := by
        rw [List.all_append, List.all_cons, List.all_nil, Bool.and_true]
      refine br_f (ad_l64 (by omega)) (br_f (nI_nle (by omega) (by omega)) (nm_r (nI_pred K.length) ⟨ad_in (by omega) (by decide), nm_r (e' := nI g) (by rw [ad_c (by omega)]; exact hgg) (ad_ye55 hg g0 (fun m => ?_))⟩))
      refine br_t (by decide) (ad_ycr G rfl rfl hlo.1 hg ?_)
      have hcl := ad_cr_lt A g (ad_lo g 8)
      refine pk_eq (ad_cr A g (ad_lo g 8)) g (fun c => ?_) (fun c => ?_) rfl rfl (by omega) (by omega)
      · refine ad_yfu G rfl rfl hs hg (ad_bb rfl (fun z => ?_) (fun z => nm_r (nI_1 st) ?_))
        · have := h (nI K.length) yw
          rw [hall, ad_OK1 g0 c, z, Bool.and_false] at this
          exact this
        · refine ih K (st + 1) (by omega) (by omega) hKl yw hstK (fun wt yw => ?_)
          have := h wt yw
          rw [hall, ad_OK1 g0 c, z, Bool.and_true] at this
          exact this
      · have hdec := ad_ps_dec (s := s) hg g0 c
        have hpl : ∀ x, x ∈ ad_ps A s g 8 g → x < 256 := ad_ps_lt 8 g
        have hpl2 := ad_M_len hpl
        have hfm := ad_fi_M (ad_ps A s g 8 g)
        have hKlen := ad_M_len (fun x hx => (hKl x hx).1)
        refine ad_ypt G rfl rfl hs hg hstK (by omega) (fun yw' hst' => nm_r (nI_1 st) ?_)
        refine ih (K ++ ad_fi (ad_ps A s g 8 g)) (st + 1) (by rw [ad_M_app]; omega) (by rw [ad_M_app]; omega) (fun x hx => ?_) yw' hst' (fun wt yw => ?_)
        · rcases List.mem_append.mp hx with y | y
          · exact hKl x y
          · have := ad_fi_mem y
            exact ⟨hpl x this.1, this.2⟩
        · have := h wt yw
          rw [hall, ad_OK2 hg g0 c] at this
          rw [List.all_append, ad_fi_all (ad_OK0 A s)]
          exact this
theorem ad_yel (G : ad_YG p A ya) {post : Int32 → SY → Prop} {x : Int32} {s : Nat} (hx : x = nI s) (hs : s < 256) (h : ∀ wt yw, post (ad_bI (ad_OK A s p)) ((nI p), kn, wt, ya, yf, yw)) : wpY_isEleventh post ((nI p), kn, wt, ya, yf, yw) x := by
  subst hx
  have hp := G.1.1
  have hm := ad_mu15 p
  have hne := ad_ne_M p
  unfold wpY_isEleventh
  refine ad_ypu (L := []) (c := p) (ad_st_nil yw) (by decide) rfl hp (fun yw' hst' => ?_)
  refine ⟨16, ad_ye15 G hs 16 ([] ++ ad_ne p) 0 (by rw [List.nil_append]; omega) (by rw [List.nil_append]; omega) (fun g hg => ?_) yw' hst' (fun wt yw => ?_)⟩
  · have := ad_ne_mem hg
    exact ⟨by rw [this.1]; exact hp, this.2⟩
  · rw [List.nil_append, ad_ne_all (ad_OK0 A s)]
    exact h wt yw
end YP
end
section
/-! the reference's families, all -/
theorem ad_yo {o q s N : Nat} (hs : s < 256) (hq : q < 12) (e : o = 256 * q) (hN : 256 * q + s < N) (hN2 : N < 4096) : vp_in (nI o + nI s) N ∧ (nI o + nI s).toNatClampNeg = 256 * q + s ∧ nI o + nI s = nI (256 * q + s) := by
  subst e
  rw [nI_add]
  exact ⟨ad_in hN hN2, ad_c (by omega), rfl⟩
theorem ad_o1 {s : Nat} (hs : s < 256) : vp_in (256 + nI s) 3072 ∧ (256 + nI s).toNatClampNeg = 256 * 1 + s ∧ 256 + nI s = nI (256 * 1 + s) := ad_yo (o := 256) (q := 1) hs (by decide) rfl (by omega) (by decide)
theorem ad_o2 {s : Nat} (hs : s < 256) : vp_in (512 + nI s) 3072 ∧ (512 + nI s).toNatClampNeg = 256 * 2 + s ∧ 512 + nI s = nI (256 * 2 + s) := ad_yo (o := 512) (q := 2) hs (by decide) rfl (by omega) (by decide)
theorem ad_o3 {s : Nat} (hs : s < 256) : vp_in (768 + nI s) 3072 ∧ (768 + nI s).toNatClampNeg = 256 * 3 + s ∧ 768 + nI s = nI (256 * 3 + s) := ad_yo (o := 768) (q := 3) hs (by decide) rfl (by omega) (by decide)
theorem ad_o5 {s : Nat} (hs : s < 256) : vp_in (1280 + nI s) 3072 ∧ (1280 + nI s).toNatClampNeg = 256 * 5 + s ∧ 1280 + nI s = nI (256 * 5 + s) := ad_yo (o := 1280) (q := 5) hs (by decide) rfl (by omega) (by decide)
theorem ad_o6 {s : Nat} (hs : s < 256) : vp_in (1536 + nI s) 3072 ∧ (1536 + nI s).toNatClampNeg = 256 * 6 + s ∧ 1536 + nI s = nI (256 * 6 + s) := ad_yo (o := 1536) (q := 6) hs (by decide) rfl (by omega) (by decide)
theorem ad_o7 {s : Nat} (hs : s < 256) : vp_in (1792 + nI s) 3072 ∧ (1792 + nI s).toNatClampNeg = 256 * 7 + s ∧ 1792 + nI s = nI (256 * 7 + s) := ad_yo (o := 1792) (q := 7) hs (by decide) rfl (by omega) (by decide)
theorem ad_o11 {s : Nat} (hs : s < 256) : vp_in (2816 + nI s) 3072 ∧ (2816 + nI s).toNatClampNeg = 256 * 11 + s ∧ 2816 + nI s = nI (256 * 11 + s) := ad_yo (o := 2816) (q := 11) hs (by decide) rfl (by omega) (by decide)
theorem ad_vb {x : Int32} {b : Bool} (h : x = ad_bI b) : vp_nar .boolean x = ad_bI b := by rw [h]; exact ad_bIn b
theorem ad_vb0 : vp_nar .boolean 0 = ad_bI false := ad_bIn false
theorem ad_vb1 : vp_nar .boolean 1 = ad_bI true := ad_bIn true
section YA
variable {p : Nat} {A : Nat → Nat} {kn wt : Int32} {ya yf yw : Nat → Int32}
theorem ad_w160 (G : ad_YG p A ya) {post : SY → Prop} {J : Int32 → Int32 → Int32 → Int32 → (Nat → Int32) → (Nat → Int32) → (Nat → Int32) → Prop} {s : Nat} {fr v : Bool} {x4 z0 z1 : Int32} (hs : s < 256) (h4 : x4 = ad_bI fr) (hz0 : z0 = ad_bI v) (hz1 : z1 = nI (256 * 5 + s))
    (h : ∀ wt yw, J (nI (s + 1)) (nI p) kn wt ya (upd (upd yf (256 * 5 + s) (ad_bI v)) (256 * 11 + s) (ad_bI (fr && ad_OK A s p))) yw) : wY_workOut_160 post J (nI s) x4 z0 z1 (nI p) kn wt ya yf yw := by
  subst h4 hz1
  unfold wY_workOut_160
  have e11 := ad_o11 hs
  refine ⟨ad_in (by omega) (by decide), nm_r (e' := upd yf (256 * 5 + s) (ad_bI v)) (by rw [ad_c (by omega), ad_vb hz0]) ?_⟩
  refine ad_bb rfl (fun z => ?_) (fun z => ?_)
  · have h2 := h wt yw
    rw [z, Bool.false_and] at h2
    exact ⟨e11.1, nm_r (by rw [e11.2.1, ad_vb0]) (nm_r (nI_1 s) h2)⟩
  · refine ad_yel G rfl hs (fun wt2 yw2 => ?_)
    have h2 := h wt2 yw2
    rw [z, Bool.true_and] at h2
    refine ad_bb rfl (fun y => ?_) (fun y => ?_)
    · rw [y] at h2
      exact ⟨e11.1, nm_r (by rw [e11.2.1, ad_vb0]) (nm_r (nI_1 s) h2)⟩
    · rw [y] at h2
      exact ⟨e11.1, nm_r (by rw [e11.2.1, ad_vb1]) (nm_r (nI_1 s) h2)⟩
theorem ad_w126 (G : ad_YG p A ya) {post : SY → Prop} {J : Int32 → Int32 → Int32 → Int32 → (Nat → Int32) → (Nat → Int32) → (Nat → Int32) → Prop} {s : Nat} {fr v : Bool} {x4 z0 z1 : Int32} (hs : s < 256) (h4 : x4 = ad_bI fr) (hz0 : z0 = ad_bI v) (hz1 : z1 = nI (256 * 2 + s))
    (h : ∀ wt yw, J (nI (s + 1)) (nI p) kn wt ya (upd (upd (upd yf (256 * 2 + s) (ad_bI v)) (256 * 5 + s) (ad_bI (fr && decide (s ||| ad_hit A s = p)))) (256 * 11 + s) (ad_bI (fr && ad_OK A s p))) yw) : wY_workOut_126 post J (nI s) x4 z0 z1 (nI p) kn wt ya yf yw := by
  subst hz1
  unfold wY_workOut_126 wY_workOut_159
  have e5 := ad_o5 hs
  refine ⟨ad_in (by omega) (by decide), nm_r (e' := upd yf (256 * 2 + s) (ad_bI v)) (by rw [ad_c (by omega), ad_vb hz0]) ?_⟩
  refine ad_bb h4 (fun z => ?_) (fun z => ?_)
  · exact ad_w160 G (v := false) hs h4 rfl e5.2.2 (fun wt2 yw2 => by have h2 := h wt2 yw2; rw [z] at h2 ⊢; exact h2)
  · refine ad_yhi G rfl hs ?_
    refine pk_eq (s ||| ad_hit A s) p (fun y => ?_) (fun y => ?_) (ad_or _ _) rfl (by have := ad_rcl G hs; unfold ad_rc at this; omega) (by have := G.1.1; omega)
    · exact ad_w160 G (v := true) hs h4 rfl e5.2.2 (fun wt2 yw2 => by have h2 := h wt2 yw2; rw [decide_eq_true y, Bool.and_true, z] at h2; rw [z]; exact h2)
    · exact ad_w160 G (v := false) hs h4 rfl e5.2.2 (fun wt2 yw2 => by have h2 := h wt2 yw2; rw [decide_eq_false y, Bool.and_false] at h2; exact h2)
theorem ad_w101 (G : ad_YG p A ya) {post : SY → Prop} {J : Int32 → Int32 → Int32 → Int32 → (Nat → Int32) → (Nat → Int32) → (Nat → Int32) → Prop} {s d : Nat} {fr v : Bool} {x4 z0 z1 : Int32} (hs : s < 256) (hd : d < 256) (h4 : x4 = ad_bI fr) (hz0 : z0 = ad_bI v) (hz1 : z1 = nI (256 * 1 + s))
    (h : ∀ wt yw, J (nI (s + 1)) (nI p) kn wt ya (upd (upd (upd (upd yf (256 * 1 + s) (ad_bI v)) (256 * 2 + s) (ad_bI (fr && decide (s = d)))) (256 * 5 + s) (ad_bI (fr && decide (s ||| ad_hit A s = p)))) (256 * 11 + s) (ad_bI (fr && ad_OK A s p))) yw) : wY_workOut_101 post J (nI s) (nI d) x4 z0 z1 (nI p) kn wt ya yf yw := by
  subst hz1
  unfold wY_workOut_101 wY_workOut_125
  have e2 := ad_o2 hs
  refine ⟨ad_in (by omega) (by decide), nm_r (e' := upd yf (256 * 1 + s) (ad_bI v)) (by rw [ad_c (by omega), ad_vb hz0]) ?_⟩
  refine ad_bb h4 (fun z => ?_) (fun z => ?_)
  · exact ad_w126 G (v := false) hs h4 rfl e2.2.2 (fun wt2 yw2 => by have h2 := h wt2 yw2; rw [z] at h2 ⊢; exact h2)
  · refine pk_eq s d (fun y => ?_) (fun y => ?_)
    · exact ad_w126 G (v := true) hs h4 rfl e2.2.2 (fun wt2 yw2 => by have h2 := h wt2 yw2; rw [decide_eq_true y, Bool.and_true, z] at h2; rw [z]; exact h2)
    · exact ad_w126 G (v := false) hs h4 rfl e2.2.2 (fun wt2 yw2 => by have h2 := h wt2 yw2; rw [decide_eq_false y, Bool.and_false] at h2; exact h2)
theorem ad_w64 (G : ad_YG p A ya) {post : SY → Prop} {J : Int32 → Int32 → Int32 → Int32 → (Nat → Int32) → (Nat → Int32) → (Nat → Int32) → Prop} {s d : Nat} {fr : Bool} {z0 : Int32} (hs : s < 256) (hd : d < 256) (hz0 : z0 = ad_bI fr)
    (h : ∀ wt yw, J (nI (s + 1)) (nI p) kn wt ya (upd (upd (upd (upd (upd yf (256 * 0 + s) (ad_bI fr)) (256 * 1 + s) (ad_bI (fr && decide (ad_df s d = 0)))) (256 * 2 + s) (ad_bI (fr && decide (s = d)))) (256 * 5 + s) (ad_bI (fr && decide (s ||| ad_hit A s = p)))) (256 * 11 + s) (ad_bI (fr && ad_OK A s p))) yw) : wY_workOut_64 post J (nI s) (nI d) z0 (nI p) kn wt ya yf yw := by
  unfold wY_workOut_64 wY_workOut_100
  have e1 := ad_o1 hs
  refine ⟨ad_in (by omega) (by decide), nm_r (e' := upd yf (256 * 0 + s) (ad_bI fr)) (by rw [ad_c (by omega), ad_vb hz0, Nat.mul_zero, Nat.zero_add]) ?_⟩
  refine ad_bb hz0 (fun z => ?_) (fun z => ?_)
  · exact ad_w101 G (v := false) hs hd hz0 rfl e1.2.2 (fun wt2 yw2 => by have h2 := h wt2 yw2; rw [z] at h2 ⊢; exact h2)
  · refine ad_e0 (s := ad_df s d) (ad_dfI _ _) (ad_df_lt _ hs) (fun y => ?_) (fun y => ?_)
    · exact ad_w101 G (v := true) hs hd hz0 rfl e1.2.2 (fun wt2 yw2 => by have h2 := h wt2 yw2; rw [decide_eq_true y, Bool.and_true, z] at h2; rw [z]; exact h2)
    · exact ad_w101 G (v := false) hs hd hz0 rfl e1.2.2 (fun wt2 yw2 => by have h2 := h wt2 yw2; rw [decide_eq_false y, Bool.and_false] at h2; exact h2)
def ad_U5 (p : Nat) (A : Nat → Nat) (yf : Nat → Int32) (s : Nat) : Nat → Int32 := upd (upd (upd (upd (upd yf (256 * 0 + s) (ad_bI (ad_fam p A 0 s))) (256 * 1 + s) (ad_bI (ad_fam p A 1 s))) (256 * 2 + s) (ad_bI (ad_fam p A 2 s))) (256 * 5 + s) (ad_bI (ad_fam p A 5 s))) (256 * 11 + s) (ad_bI (ad_fam p A 11 s))
theorem ad_w44 (G : ad_YG p A ya) {post : SY → Prop} {J : Int32 → Int32 → Int32 → Int32 → (Nat → Int32) → (Nat → Int32) → (Nat → Int32) → Prop} {s : Nat} {z0 : Int32} (hs : s < 256) (hz0 : z0 = ad_bI (decide (ad_df s p = 0)))
    (h : ∀ wt yw, J (nI (s + 1)) (nI p) kn wt ya (ad_U5 p A yf s) yw) : wY_workOut_44 post J (nI s) (nI (ad_dd p A s)) z0 (nI p) kn wt ya yf yw := by
  unfold wY_workOut_44 wY_workOut_63
  have hd := ad_dd_lt p A s
  have fin : ∀ (fr : Bool) (z : Int32), z = ad_bI fr → fr = ad_f0 p A s → wY_workOut_64 post J (nI s) (nI (ad_dd p A s)) z (nI p) kn wt ya yf yw := by
    intro fr z hz hf
    subst hf
    exact ad_w64 G hs hd hz h
  refine ad_bb hz0 (fun z => fin false 0 rfl ?_) (fun z => ad_yhi G rfl hs (ad_e0 (s := ad_hit A s &&& s) (nx_and _ _) (ad_and_lt' _ hs) (fun y => fin true 1 rfl ?_) (fun y => fin false 0 rfl ?_)))
  · unfold ad_f0; rw [z]; rfl
  · unfold ad_f0; rw [z, decide_eq_true y]; rfl
  · unfold ad_f0; rw [decide_eq_false y, Bool.and_false]
theorem ad_U5_t {f : Nat → Int32} {i k t : Nat} (hi : i < 256) (ht : t < 256) (h : t ≠ i) : ad_U5 p A f i (256 * k + t) = f (256 * k + t) := by
  unfold ad_U5
  rw [ad_yu ht hi (Or.inl h), ad_yu ht hi (Or.inl h), ad_yu ht hi (Or.inl h), ad_yu ht hi (Or.inl h), ad_yu ht hi (Or.inl h)]
theorem ad_U5_i {f : Nat → Int32} {i k : Nat} (hi : i < 256) (hk : k ∈ [0, 1, 2, 5, 11]) : ad_U5 p A f i (256 * k + i) = ad_bI (ad_fam p A k i) := by
  have hk2 : k = 0 ∨ k = 1 ∨ k = 2 ∨ k = 5 ∨ k = 11 := by simpa using hk
  unfold ad_U5
  rcases hk2 with e | e | e | e | e <;> subst e
  · rw [ad_yu hi hi (Or.inr (by decide)), ad_yu hi hi (Or.inr (by decide)), ad_yu hi hi (Or.inr (by decide)), ad_yu hi hi (Or.inr (by decide)), pk_us]
  · rw [ad_yu hi hi (Or.inr (by decide)), ad_yu hi hi (Or.inr (by decide)), ad_yu hi hi (Or.inr (by decide)), pk_us]
  · rw [ad_yu hi hi (Or.inr (by decide)), ad_yu hi hi (Or.inr (by decide)), pk_us]
  · rw [ad_yu hi hi (Or.inr (by decide)), pk_us]
  · rw [pk_us]
/-! the second pass -/
theorem ad_w280 (G : ad_YG p A ya) {post : SY → Prop} {J : Int32 → (Nat → Int32) → (Nat → Int32) → (Nat → Int32) → Prop} {s : Nat} {F : Nat → Bool} {v : Bool} {x1 z0 z1 : Int32} (hs : s < 256) (hF : ad_yF yf 0 F) (hz0 : z0 = ad_bI v) (hz1 : z1 = nI (256 * 6 + s))
    (h : J (nI (s + 1)) ya (upd (upd yf (256 * 6 + s) (ad_bI v)) (256 * 7 + s) (ad_bI (F s && ad_gr F (ad_rc A) s))) yw) : wY_workOut_280 post J x1 (nI s) z0 z1 (nI p) kn wt ya yf yw := by
  subst hz1
  unfold wY_workOut_280
  have e7 := ad_o7 hs
  have hF2 : ad_yF (upd yf (256 * 6 + s) (ad_bI v)) 0 F := fun t ht => by rw [ad_yu ht hs (Or.inr (by decide))]; exact hF t ht
  have hFs := hF2 s hs
  rw [Nat.mul_zero, Nat.zero_add] at hFs
  refine ⟨ad_in (by omega) (by decide), nm_r (e' := upd yf (256 * 6 + s) (ad_bI v)) (by rw [ad_c (by omega), ad_vb hz0]) ⟨ad_in (by omega) (by decide), ad_bb (b := F s) (by rw [ad_c (by omega)]; exact hFs) (fun z => ?_) (fun z => ?_)⟩⟩
  · rw [z, Bool.false_and] at h
    exact ⟨e7.1, nm_r (by rw [e7.2.1, ad_vb0]) (nm_r (nI_1 s) h)⟩
  · rw [z, Bool.true_and] at h
    refine ad_ygr (k := 0) G rfl rfl (by decide) hs hF2 (ad_bb rfl (fun y => ?_) (fun y => ?_))
    · rw [y] at h
      exact ⟨e7.1, nm_r (by rw [e7.2.1, ad_vb0]) (nm_r (nI_1 s) h)⟩
    · rw [y] at h
      exact ⟨e7.1, nm_r (by rw [e7.2.1, ad_vb1]) (nm_r (nI_1 s) h)⟩
theorem ad_w242 (G : ad_YG p A ya) {post : SY → Prop} {J : Int32 → (Nat → Int32) → (Nat → Int32) → (Nat → Int32) → Prop} {s : Nat} {F H : Nat → Bool} {v : Bool} {x1 z0 z1 : Int32} (hs : s < 256) (hF : ad_yF yf 0 F) (hH : ad_yF yf 2 H) (hz0 : z0 = ad_bI v) (hz1 : z1 = nI (256 * 3 + s))
    (h : J (nI (s + 1)) ya (upd (upd (upd yf (256 * 3 + s) (ad_bI v)) (256 * 6 + s) (ad_bI (H s && ad_gr H (ad_rc A) s))) (256 * 7 + s) (ad_bI (F s && ad_gr F (ad_rc A) s))) yw) : wY_workOut_242 post J x1 (nI s) z0 z1 (nI p) kn wt ya yf yw := by
  subst hz1
  unfold wY_workOut_242 wY_workOut_279
  have e2 := ad_o2 hs
  have e6 := ad_o6 hs
  have hF2 : ad_yF (upd yf (256 * 3 + s) (ad_bI v)) 0 F := fun t ht => by rw [ad_yu ht hs (Or.inr (by decide))]; exact hF t ht
  have hH2 : ad_yF (upd yf (256 * 3 + s) (ad_bI v)) 2 H := fun t ht => by rw [ad_yu ht hs (Or.inr (by decide))]; exact hH t ht
  refine ⟨ad_in (by omega) (by decide), nm_r (e' := upd yf (256 * 3 + s) (ad_bI v)) (by rw [ad_c (by omega), ad_vb hz0]) ⟨e2.1, ad_bb (b := H s) (by rw [e2.2.1]; exact hH2 s hs) (fun z => ?_) (fun z => ?_)⟩⟩
  · rw [z, Bool.false_and] at h
    exact ad_w280 G (v := false) hs hF2 rfl e6.2.2 h
  · rw [z, Bool.true_and] at h
    refine ad_ygr (k := 2) G rfl rfl (by decide) hs hH2 (ad_bb rfl (fun y => ?_) (fun y => ?_))
    · rw [y] at h
      exact ad_w280 G (v := false) hs hF2 rfl e6.2.2 h
    · rw [y] at h
      exact ad_w280 G (v := true) hs hF2 rfl e6.2.2 h
def ad_U3 (p : Nat) (A : Nat → Nat) (yf : Nat → Int32) (s : Nat) : Nat → Int32 := upd (upd (upd yf (256 * 3 + s) (ad_bI (ad_fam p A 3 s))) (256 * 6 + s) (ad_bI (ad_fam p A 6 s))) (256 * 7 + s) (ad_bI (ad_fam p A 7 s))
theorem ad_U3_t {f : Nat → Int32} {i k t : Nat} (hi : i < 256) (ht : t < 256) (h : t ≠ i ∨ k ∈ [0, 1, 2, 5, 11]) : ad_U3 p A f i (256 * k + t) = f (256 * k + t) := by
  have h2 : ∀ q, q ∈ [3, 6, 7] → t ≠ i ∨ k ≠ q := by
    intro q hq
    rcases h with e | e
    · exact Or.inl e
    · right
      intro c
      subst c
      have a : k = 0 ∨ k = 1 ∨ k = 2 ∨ k = 5 ∨ k = 11 := by simpa using e
      have b : k = 3 ∨ k = 6 ∨ k = 7 := by simpa using hq
      omega
  unfold ad_U3
  rw [ad_yu ht hi (h2 7 (by decide)), ad_yu ht hi (h2 6 (by decide)), ad_yu ht hi (h2 3 (by decide))]
theorem ad_U3_i {f : Nat → Int32} {i k : Nat} (hi : i < 256) (hk : k ∈ [3, 6, 7]) : ad_U3 p A f i (256 * k + i) = ad_bI (ad_fam p A k i) := by
  have hk2 : k = 3 ∨ k = 6 ∨ k = 7 := by simpa using hk
  unfold ad_U3
  rcases hk2 with e | e | e <;> subst e
  · rw [ad_yu hi hi (Or.inr (by decide)), ad_yu hi hi (Or.inr (by decide)), pk_us]
  · rw [ad_yu hi hi (Or.inr (by decide)), pk_us]
  · rw [pk_us]
def ad_yK (p : Nat) (A : Nat → Nat) (l : List Nat) (f : Nat → Int32) : Prop := ∀ k, k ∈ l → k < 12 → ∀ s, s < 256 → f (256 * k + s) = ad_bI (ad_fam p A k s)
theorem ad_yKs {l : List Nat} {f g : Nat → Int32} {k : Nat} {F : Nat → Bool} (h : ad_yK p A l f) (hP : ad_yP k F f g) (hF : ∀ s, s < 256 → F s = ad_fam p A k s) : ad_yK p A (k :: l) g := by
  intro m hm hm12 s hs
  by_cases e : m = k
  · subst e; rw [hP.1 s hs, hF s hs]
  · rw [hP.2 m hm12 e s hs]
    rcases List.mem_cons.mp hm with c | c
    · exact absurd c e
    · exact h m c hm12 s hs
theorem ad_w203 (G : ad_YG p A ya) {post : SY → Prop} (hK : ad_yK p A [0, 1, 2, 5, 11] yf) (h : ∀ f, (∀ k, k < 12 → ad_yF f k (ad_fam p A k)) → post ((nI p), kn, wt, ya, f, yw)) : ∃ n, wY_workOut_203 post (nI (ad_cm p (ad_f2 p A) 256)) (nI p) kn wt n 0 ya yf yw := by
  have hp := G.1.1
  refine loop_0 (fun n i f => wY_workOut_203 post (nI (ad_cm p (ad_f2 p A) 256)) (nI p) kn wt n (nI i) ya f yw) (fun i f => ad_yK p A [0, 1, 2, 5, 11] f ∧ ∀ k, k ∈ [3, 6, 7] → ∀ t, t < i → f (256 * k + t) = ad_bI (ad_fam p A k t)) 256 yf ⟨hK, fun k _ t ht => by omega⟩ ?_ ?_
  · intro n f hf
    have k0 : ad_yK p A [0, 1, 2, 5, 11, 3, 6, 7] f := by
      intro k hk hk12 s hs
      rcases List.mem_append.mp (show k ∈ [0, 1, 2, 5, 11] ++ [3, 6, 7] from hk) with c | c
      · exact hf.1 k c hk12 s hs
      · exact hf.2 k c s hs
    refine br_t ad_g256 (ad_ykg (k := 1) (m := 4) (w := 255) (F := ad_f1 p A) rfl rfl rfl (by decide) (by decide) (by decide) (k0 1 (by decide) (by decide)) (fun f1 h1 => ?_))
    have k1 := ad_yKs k0 h1 (fun _ _ => rfl)
    refine ad_ykg (k := 0) (m := 8) (w := 255) (F := ad_f0 p A) rfl rfl rfl (by decide) (by decide) (by decide) (k1 0 (by decide) (by decide)) (fun f2 h2 => ?_)
    have k2 := ad_yKs k1 h2 (fun _ _ => rfl)
    refine ad_yco (k := 4) (F := ad_f4 p A) G rfl (by decide) (k2 4 (by decide) (by decide)) ?_
    refine ad_yco (k := 6) (F := ad_f6 p A) G rfl (by decide) (k2 6 (by decide) (by decide)) ?_
    refine ad_ykg (k := 1) (m := 9) (F := ad_f1 p A) rfl rfl rfl (by decide) (by decide) (by decide) (k2 1 (by decide) (by decide)) (fun f3 h3 => ?_)
    have k3 := ad_yKs k2 h3 (fun _ _ => rfl)
    refine ad_ykg (k := 1) (m := 10) (F := ad_f1 p A) rfl rfl rfl (by decide) (by decide) (by decide) (k3 1 (by decide) (by decide)) (fun f4 h4 => ?_)
    have k4 := ad_yKs k3 h4 (fun _ _ => rfl)
    refine h f4 (fun k hk => k4 k ?_ hk)
    exact (by decide : ∀ k, k < 12 → k ∈ [10, 9, 8, 4, 0, 1, 2, 5, 11, 3, 6, 7]) k hk
  · intro n i f hi hf K
    have e2 := ad_o2 hi
    have e3 := ad_o3 hi
    have hc := ad_cm_lt (ad_f2 p A) hp 256
    have step := K (ad_U3 p A f i) ⟨fun k hk hk12 s hs => by
        rw [ad_U3_t hi hs (Or.inr hk)]; exact hf.1 k hk hk12 s hs, fun k hk t ht => by
        by_cases e : t = i
        · rw [e]; exact ad_U3_i hi hk
        · rw [ad_U3_t hi (by omega) (Or.inl e)]; exact hf.2 k hk t (by omega)⟩
    have h0 : ad_yF f 0 (ad_f0 p A) := hf.1 0 (by decide) (by decide)
    have h2 : ad_yF f 2 (ad_f2 p A) := hf.1 2 (by decide) (by decide)
    have fin : ∀ (v : Bool) (z : Int32), z = ad_bI v → v = ad_f3 p A i → wY_workOut_242 post (wY_workOut_203 post (nI (ad_cm p (ad_f2 p A) 256)) (nI p) kn wt n) (nI (ad_cm p (ad_f2 p A) 256)) (nI i) z (768 + nI i) (nI p) kn wt ya f yw := by
      intro v z hz hv
      subst hv
      exact ad_w242 G hi h0 h2 hz e3.2.2 step
    refine br_f (ad_l256 hi) ⟨e2.1, ad_bb (b := ad_f2 p A i) (by rw [e2.2.1]; exact h2 i hi) (fun z => ?_) (fun z => pk_eq i _ (fun y => fin true 1 rfl ?_) (fun y => ?_))⟩
    · unfold wY_workOut_241
      exact fin false 0 rfl (by unfold ad_f3; rw [z]; rfl)
    · unfold ad_f3; rw [z, decide_eq_true y]; rfl
    · unfold wY_workOut_241
      exact fin false 0 rfl (by unfold ad_f3; rw [decide_eq_false y, Bool.and_false])
theorem ad_ywo (G : ad_YG p A ya) {post : SY → Prop} (hK : kn = 0 ∨ (kn = 1 ∧ ∀ k, k < 12 → ad_yF yf k (ad_fam p A k))) (h : ∀ wt yf yw, (∀ k, k < 12 → ad_yF yf k (ad_fam p A k)) → post ((nI p), 1, wt, ya, yf, yw)) : wpY_workOut post ((nI p), kn, wt, ya, yf, yw) := by
  unfold wpY_workOut
  rcases hK with e | ⟨e, hf⟩
  · subst e
    refine br_t rfl ?_
    refine loop_0 (fun n i (u : Int32 × (Nat → Int32) × (Nat → Int32)) => wY_workOut_15 post n (nI i) (nI p) 1 u.1 ya u.2.1 u.2.2) (fun i u => ∀ k, k ∈ [0, 1, 2, 5, 11] → ∀ t, t < i → u.2.1 (256 * k + t) = ad_bI (ad_fam p A k t)) 256 (wt, yf, yw) (fun k _ t ht => by omega) ?_ ?_
    · intro n u hu
      have k0 : ad_yK p A [0, 1, 2, 5, 11] u.2.1 := fun k hk _ s hs => hu k hk s hs
      refine br_t ad_g256 (ad_yco (k := 2) (F := ad_f2 p A) G rfl (by decide) (k0 2 (by decide) (by decide)) ?_)
      exact ad_w203 G k0 (fun f hf => h u.1 f u.2.2 hf)
    · intro n i u hi hu K
      have step : ∀ wt yw, wY_workOut_15 post n (nI (i + 1)) (nI p) 1 wt ya (ad_U5 p A u.2.1 i) yw := fun wt yw => K (wt, ad_U5 p A u.2.1 i, yw) (fun k hk t ht => by
        show ad_U5 p A u.2.1 i (256 * k + t) = _
        by_cases e : t = i
        · rw [e]; exact ad_U5_i hi hk
        · rw [ad_U5_t hi (by omega) e]; exact hu k hk t (by omega))
      refine br_f (ad_l256 hi) (ad_yde G rfl hi (ad_e0 (s := ad_df i p) (ad_dfI _ _) (ad_df_lt _ hi) (fun z => ?_) (fun z => ?_)))
      · exact ad_w44 G hi (by rw [decide_eq_true z]; rfl) step
      · exact ad_w44 G hi (by rw [decide_eq_false z]; rfl) step
  · subst e
    exact br_f (by decide) (h wt yf yw hf)
end YA
end
section
/-! the relation; the constructors; put, attack, attackers -/
def ad_Rl (p : Nat) (A : Nat → Nat) (u : SX) (v : SY) : Prop := match u, v with
  | (pr, kn, _, xa, xb, hv, fm, _, _, _, _, _), (th, kn2, _, ya, yf, _) => pr = nI p ∧ th = nI p ∧ kn2 = kn ∧ ad_XG p A xa xb hv ∧ (∀ j, j < 8 → ya j = nI (A j)) ∧ (kn = 0 ∨ (kn = 1 ∧ (∀ k, k < 12 → ∀ s, s < 256 → ad_xf fm (4 * k) s = ad_fam p A k s) ∧ (∀ k, k < 12 → ad_yF yf k (ad_fam p A k))))
/-- both hold the same arguments and attacks; the component also who attacks whom; both know the families, or neither -/
def i_Rel (_ : Nat) (u : SX) (v : SY) : Prop := ∃ (p : Nat) (A : Nat → Nat), ad_Rl p A u v
theorem i_up {k : Nat} {u : SX} {v : SY} (h : i_Rel k u v) : i_Rel (k + 4) u v := h
section RL
variable {p : Nat} {A : Nat → Nat} {kn gc : Int32} {xa xb : Nat → Int32} {hv fm wk ot rf : Nat → Int64} {gr ct : Nat → Int32} {wt : Int32} {ya yf yw : Nat → Int32}
theorem ad_R0 {k : Nat} (G : ad_XG p A xa xb hv) (hy : ∀ j, j < 8 → ya j = nI (A j)) : i_Rel k ((nI p), 0, gc, xa, xb, hv, fm, wk, ot, rf, gr, ct) ((nI p), 0, wt, ya, yf, yw) := ⟨p, A, rfl, rfl, rfl, G, hy, Or.inl rfl⟩
theorem ad_R1 {k : Nat} (G : ad_XG p A xa xb hv) (hy : ∀ j, j < 8 → ya j = nI (A j)) (hx : ∀ k, k < 12 → ∀ s, s < 256 → ad_xf fm (4 * k) s = ad_fam p A k s) (hf : ∀ k, k < 12 → ad_yF yf k (ad_fam p A k)) : i_Rel k ((nI p), 1, gc, xa, xb, hv, fm, wk, ot, rf, gr, ct) ((nI p), 1, wt, ya, yf, yw) := ⟨p, A, rfl, rfl, rfl, G, hy, Or.inr ⟨rfl, hx, hf⟩⟩
/-! constructors -/
theorem ad_in84 {post : SX → Prop} {J : Int32 → (Nat → Int32) → (Nat → Int32) → (Nat → Int64) → (Nat → Int64) → (Nat → Int64) → (Nat → Int64) → (Nat → Int64) → (Nat → Int32) → (Nat → Int32) → Prop} {s : Nat} (hs : s < 256)
    (h : ∀ f, (∀ q, q < 8 → ∀ t, t < 256 → ad_xf f (4 * q) t = (ad_xf hv (4 * q) t || (decide (t = s) && s.testBit q))) → J (nI (s + 1)) xa xb f fm wk ot rf gr ct) : ∃ n, wX_init_84 post J (nI s) (nI p) kn gc n 0 xa xb hv fm wk ot rf gr ct := by
  refine loop_0 (fun n i f => wX_init_84 post J (nI s) (nI p) kn gc n (nI i) xa xb f fm wk ot rf gr ct) (fun i f => ∀ q, q < 8 → ∀ t, t < 256 → ad_xf f (4 * q) t = (ad_xf hv (4 * q) t || (decide (t = s) && (decide (q < i) && s.testBit q)))) 8 hv (fun q hq t ht => by rw [decide_eq_false (by omega : ¬ q < 0), Bool.false_and, Bool.and_false, Bool.or_false]) ?_ ?_
  · intro n f hf
    refine br_t ad_g8 (nm_r (nI_1 s) (h f (fun q hq t ht => ?_)))
    rw [hf q hq t ht, decide_eq_true hq, Bool.true_and]
  · intro n i f hi hf K
    refine br_f (ad_l8 hi) (ad_xb rfl rfl hs (by omega) (fun hb => nm_r (nI_1 i) (K f (fun q hq t ht => ?_))) (fun hb => ?_))
    · rw [hf q hq t ht]
      by_cases e : q = i
      · rw [e, hb]; simp
      · rw [decide_eq_decide.mpr (by omega : q < i ↔ q < i + 1)]
    · rw [ad_s6 hs, ad_i4, ad_c (by omega)]
      refine ⟨ad_in (by omega) (by decide), ad_in (by omega) (by decide), nm_e (nm_r (nI_1 i) (K _ (fun q hq t ht => ?_)))⟩
      rw [ad_or1 hs ht, hf q hq t ht]
      by_cases e : q = i
      · rw [e, hb, decide_eq_false (by omega : ¬ i < i), decide_eq_true (by omega : i < i + 1), decide_eq_true rfl]
        simp
      · rw [decide_eq_false e, Bool.false_and, Bool.or_false, decide_eq_decide.mpr (by omega : q < i ↔ q < i + 1)]
theorem ad_in75 {post : SX → Prop} (h0 : ∀ q, q < 8 → ∀ t, t < 256 → ad_xf hv (4 * q) t = false) (h : ∀ f, (∀ q, q < 8 → ∀ t, t < 256 → ad_xf f (4 * q) t = t.testBit q) → post ((nI p), kn, gc, xa, xb, f, fm, wk, ot, rf, gr, ct)) : ∃ n, wX_init_75 post (nI p) kn gc n 0 xa xb hv fm wk ot rf gr ct := by
  refine loop_0 (fun n i f => wX_init_75 post (nI p) kn gc n (nI i) xa xb f fm wk ot rf gr ct) (fun i f => ∀ q, q < 8 → ∀ t, t < 256 → ad_xf f (4 * q) t = (decide (t < i) && t.testBit q)) 256 hv (fun q hq t ht => by rw [h0 q hq t ht, decide_eq_false (by omega), Bool.false_and]) ?_ ?_
  · intro n f hf
    refine br_t ad_g256 (h f (fun q hq t ht => ?_))
    rw [hf q hq t ht, decide_eq_true ht, Bool.true_and]
  · intro n i f hi hf K
    refine br_f (ad_l256 hi) (ad_in84 hi (fun f2 h2 => K f2 (fun q hq t ht => ?_)))
    rw [h2 q hq t ht, hf q hq t ht]
    by_cases e : t = i
    · rw [e, decide_eq_false (by omega : ¬ i < i), decide_eq_true (by omega : i < i + 1), decide_eq_true rfl]; rfl
    · rw [decide_eq_false e, Bool.false_and, Bool.or_false, decide_eq_decide.mpr (by omega : t < i ↔ t < i + 1)]
theorem ad_ak0 (a : Nat) : ad_ak (fun _ => 0) a = 0 := (ad_zero (ad_ak_lt _ a)).mpr (fun i hi => by rw [ad_ak_bit _ a hi, Nat.zero_testBit])
theorem ad_XG0 (h : ∀ q, q < 8 → ∀ t, t < 256 → ad_xf hv (4 * q) t = t.testBit q) : ad_XG 0 (fun _ => 0) (fun _ => 0) (fun _ => 0) hv := by
  refine ⟨⟨by decide, fun _ _ => (by decide : 0 < 256), fun a b _ _ z => ?_⟩, fun _ _ => nI_0.symm, fun j _ => ?_, h⟩
  · have z2 : (0 : Nat).testBit b = true := z
    rw [Nat.zero_testBit] at z2; exact absurd z2 (by decide)
  · rw [ad_ak0]; exact nI_0.symm
end RL
theorem i_vc0 : wpX_init (fun u => wpY_init (fun v => i_Rel 0 u v)) := by
  unfold wpX_init
  refine ad_in75 (p := 0) (kn := 0) (gc := 0) (fun q hq t ht => ad_w_0 _) (fun f hf => ?_)
  unfold wpY_init
  exact ad_R0 (ad_XG0 hf) (fun _ _ => nI_0.symm)
section PUT
variable {p : Nat} {A : Nat → Nat} {kn gc : Int32} {xa xb : Nat → Int32} {hv fm wk ot rf : Nat → Int64} {gr ct : Nat → Int32} {wt : Int32} {ya yf yw : Nat → Int32}
/-- without argument a -/
def ad_cl (A : Nat → Nat) (a j : Nat) : Nat := ad_df (A j) (2 ^ a)
def ad_rm (A : Nat → Nat) (a j : Nat) : Nat := if j = a then 0 else ad_cl A a j
theorem ad_cl_bit {A : Nat → Nat} {a j i : Nat} (hi : i < 8) : (ad_cl A a j).testBit i = ((A j).testBit i && decide (a ≠ i)) := by
  unfold ad_cl
  rw [ad_df_bit (by omega), Nat.testBit_two_pow]
  by_cases e : a = i
  · rw [decide_eq_true e, decide_eq_false (fun c => c e)]; rfl
  · rw [decide_eq_false e, decide_eq_true e]; rfl
theorem ad_rm_bit {A : Nat → Nat} {a j i : Nat} (hi : i < 8) : (ad_rm A a j).testBit i = ((A j).testBit i && (decide (a ≠ i) && decide (a ≠ j))) := by
  unfold ad_rm
  by_cases e : j = a
  · rw [if_pos e, Nat.zero_testBit, decide_eq_false (p := a ≠ j) (fun c => c e.symm), Bool.and_false, Bool.and_false]
  · rw [if_neg e, ad_cl_bit hi, decide_eq_true (p := a ≠ j) (fun c => e c.symm), Bool.and_true]
theorem ad_rm_lt {A : Nat → Nat} (hA : ∀ j, j < 8 → A j < 256) (a : Nat) : ∀ j, j < 8 → ad_rm A a j < 256 := by
  intro j hj
  unfold ad_rm; split
  · decide
  · exact ad_df_lt _ (hA j hj)
theorem ad_rm_ak {A : Nat → Nat} {a j : Nat} (hj : j < 8) : ad_ak (ad_rm A a) j = ad_rm (ad_ak A) a j := by
  refine ad_ext (ad_ak_lt _ j) (ad_rm_lt (fun j _ => ad_ak_lt A j) a j hj) (fun i hi => ?_)
  rw [ad_ak_bit _ j hi, ad_rm_bit hj, ad_rm_bit hi, ad_ak_bit A j hi]
  congr 1
  exact Bool.and_comm _ _
theorem ad_xp_bit {p a i : Nat} (h : a ≠ i) : (p ^^^ 2 ^ a).testBit i = p.testBit i := by rw [Nat.testBit_xor, Nat.testBit_two_pow, decide_eq_false h, Bool.xor_false]
theorem ad_rm_ok (h : ad_ok p A) {a : Nat} (ha : a < 8) : ad_ok (p ^^^ 2 ^ a) (ad_rm A a) := by
  refine ⟨ad_xor_lt h.1 (ad_pw_lt ha), ad_rm_lt h.2.1 a, fun c d hc hd z => ?_⟩
  rw [ad_rm_bit hd, Bool.and_eq_true, Bool.and_eq_true, decide_eq_true_iff, decide_eq_true_iff] at z
  rw [ad_xp_bit z.2.2, ad_xp_bit z.2.1]
  exact h.2.2 c d hc hd z.1
theorem ad_rm_id (h : ad_ok p A) {a : Nat} (ha : a < 8) (hp : p.testBit a = false) : ∀ j, j < 8 → ad_cl A a j = A j := by
  intro j hj
  refine ad_ext (ad_df_lt _ (h.2.1 j hj)) (h.2.1 j hj) (fun i hi => ?_)
  rw [ad_cl_bit hi]
  cases hb : (A j).testBit i
  · rfl
  · by_cases e : a = i
    · have := (h.2.2 j i hj hi hb).2
      rw [← e, hp] at this; exact absurd this (by decide)
    · rw [decide_eq_true e]; rfl
theorem ad_rm_id2 (h : ad_ok p A) {a : Nat} (ha : a < 8) (hp : p.testBit a = false) : ∀ j, j < 8 → ad_cl (ad_ak A) a j = ad_ak A j := by
  intro j hj
  refine ad_ext (ad_df_lt _ (ad_ak_lt A j)) (ad_ak_lt A j) (fun i hi => ?_)
  rw [ad_cl_bit hi, ad_ak_bit A j hi]
  cases hb : (A i).testBit j
  · rfl
  · by_cases e : a = i
    · have := (h.2.2 i j hi hj hb).1
      rw [← e, hp] at this; exact absurd this (by decide)
    · rw [decide_eq_true e]; rfl
theorem ad_updrm {f : Nat → Int32} {C : Nat → Nat} {a : Nat} {x : Int32} (hx : x = 0) (h : ∀ j, j < 8 → f j = nI (ad_cl C a j)) : ∀ j, j < 8 → upd f a x j = nI (ad_rm C a j) := by
  intro j hj
  unfold ad_rm
  by_cases e : j = a
  · rw [if_pos e, e, pk_us, hx]; exact nI_0.symm
  · rw [if_neg e, pk_un e]; exact h j hj
theorem ad_p85 {post : Int32 → SX → Prop} {a : Nat} (ha : a < 8) (hxa : ∀ j, j < 8 → xa j = nI (ad_cl A a j)) (hxb : ∀ j, j < 8 → xb j = nI (ad_cl (ad_ak A) a j)) {q : Int32}
    (h : ∀ xa xb, (∀ j, j < 8 → xa j = nI (ad_rm A a j)) → (∀ j, j < 8 → xb j = nI (ad_rm (ad_ak A) a j)) → post 1 (q, 0, gc, xa, xb, hv, fm, wk, ot, rf, gr, ct)) : wX_put_85 post (nI a) q kn gc xa xb hv fm wk ot rf gr ct := by
  unfold wX_put_85
  refine ⟨ad_in ha (by decide), nm_e ⟨ad_in ha (by decide), nm_e ?_⟩⟩
  rw [ad_c (by omega)]
  exact h _ _ (ad_updrm ad_sh00 hxa) (ad_updrm ad_sh00 hxb)
theorem ad_p39 {post : Int32 → SX → Prop} {a : Nat} (ha : a < 8) (hA : ∀ j, j < 8 → A j < 256) (hxa : ∀ j, j < 8 → xa j = nI (A j)) (hxb : ∀ j, j < 8 → xb j = nI (ad_ak A j)) {q : Int32}
    (h : ∀ xa xb, (∀ j, j < 8 → xa j = nI (ad_rm A a j)) → (∀ j, j < 8 → xb j = nI (ad_rm (ad_ak A) a j)) → post 1 (q, 0, gc, xa, xb, hv, fm, wk, ot, rf, gr, ct)) : ∃ n, wX_put_39 post (nI a) 0 q kn gc n 0 xa xb hv fm wk ot rf gr ct := by
  refine loop_0 (fun n i (f : (Nat → Int32) × (Nat → Int32)) => wX_put_39 post (nI a) 0 q kn gc n (nI i) f.1 f.2 hv fm wk ot rf gr ct) (fun i f => ad_RI A (ad_cl A a) i f.1 ∧ ad_RI (ad_ak A) (ad_cl (ad_ak A) a) i f.2) 8 (xa, xb) ⟨fun j hj => by rw [if_neg (by omega)]; exact hxa j hj, fun j hj => by rw [if_neg (by omega)]; exact hxb j hj⟩ ?_ ?_
  · intro n f hf
    refine br_t ad_g8 (ad_p85 ha (fun j hj => ?_) (fun j hj => ?_) h)
    · rw [hf.1 j hj, if_pos hj]
    · rw [hf.2 j hj, if_pos hj]
  · intro n i f hi hf K
    have e1 : f.1 i = nI (A i) := by rw [hf.1 i hi, if_neg (by omega)]
    have e2 : f.2 i = nI (ad_ak A i) := by rw [hf.2 i hi, if_neg (by omega)]
    refine br_f (ad_l8 hi) (br_t rfl ⟨ad_in hi (by decide), ad_in hi (by decide), nm_r (e' := upd f.1 i (nI (ad_cl A a i))) ?_ ⟨ad_in hi (by decide), ad_in hi (by decide), nm_r (e' := upd f.2 i (nI (ad_cl (ad_ak A) a i))) ?_ (nm_r (nI_1 i) (K (_, _) ⟨ad_RIs hf.1 rfl, ad_RIs hf.2 rfl⟩))⟩⟩)
    · rw [ad_c (by omega), e1, ad_pw (by omega), ad_dfI, ad_sh (ad_df_lt _ (hA i hi))]; rfl
    · rw [ad_c (by omega), e2, ad_pw (by omega), ad_dfI, ad_sh (ad_df_lt _ (ad_ak_lt A i))]; rfl
theorem ad_y59 {post : Int32 → SY → Prop} {a : Nat} {C : Nat → Nat} (ha : a < 8) (hC : ∀ j, j < 8 → C j < 256) (h0 : ∀ j, j < 8 → ya j = nI (C j)) {q : Int32} (h : ∀ f, (∀ j, j < 8 → f j = nI (ad_cl C a j)) → post 1 (q, kn, wt, f, yf, yw)) : ∃ n, wY_put_59 post (nI a) q kn wt n 0 ya yf yw := by
  refine loop_0 (fun n i f => wY_put_59 post (nI a) q kn wt n (nI i) f yf yw) (fun i f => ad_RI C (ad_cl C a) i f) 8 ya (fun j hj => by rw [if_neg (by omega)]; exact h0 j hj) ?_ ?_
  · intro n f hf
    exact br_t ad_g8 (h f (fun j hj => by rw [hf j hj, if_pos hj]))
  · intro n i f hi hf K
    have e1 : f i = nI (C i) := by rw [hf i hi, if_neg (by omega)]
    refine br_f (ad_l8 hi) ⟨ad_in hi (by decide), ad_in hi (by decide), nm_r (e' := upd f i (nI (ad_cl C a i))) ?_ (nm_r (nI_1 i) (K _ (ad_RIs hf rfl)))⟩
    rw [ad_c (by omega), e1, ad_pw (by omega), ad_dfI]; rfl
theorem ad_bzB (v : Int32) : ∃ b : Bool, lw_bz v = ad_bI b := by
  rcases lw_bz_01 v with h | h
  · exact ⟨false, h⟩
  · exact ⟨true, h⟩
theorem ad_bIe {a b : Bool} : ad_bI a = ad_bI b ↔ a = b := by cases a <;> cases b <;> decide
theorem ad_yput (hp : p < 256) (hA : ∀ j, j < 8 → A j < 256) (hy : ∀ j, j < 8 → ya j = nI (A j)) {post : Int32 → SY → Prop} {a : Nat} (ha : a < 8) {on : Bool} (hne : p.testBit a ≠ on) (h : ∀ ya, (∀ j, j < 8 → ya j = nI (ad_rm A a j)) → post 1 ((nI (p ^^^ 2 ^ a)), 0, wt, ya, yf, yw)) : wpY_put post ((nI p), kn, wt, ya, yf, yw) (nI a) (ad_bI on) := by
  unfold wpY_put
  have h28 : ∀ z0 : Int32, z0 = ad_bI (p.testBit a) → wY_put_28 post (nI a) z0 (ad_bI on) (nI p) kn wt ya yf yw := by
    intro z0 hz
    unfold wY_put_28
    refine br_f (by rw [hz, ad_bIe]; exact fun c => hne c.symm) (nm_r (e' := nI (p ^^^ 2 ^ a)) (by rw [ad_pw (by omega), nx_xor]) ⟨ad_in ha (by decide), nm_r (e' := upd ya a 0) (by rw [ad_c (by omega)]) ?_⟩)
    have hC : ∀ j, j < 8 → (if j = a then 0 else A j) < 256 := fun j hj => by
      split
      · decide
      · exact hA j hj
    refine ad_y59 (C := fun j => if j = a then 0 else A j) ha hC (fun j hj => ?_) (fun f hf => h f (fun j hj => ?_))
    · by_cases e : j = a
      · rw [e, pk_us, if_pos rfl]; exact nI_0.symm
      · rw [pk_un e, if_neg e]; exact hy j hj
    · rw [hf j hj]
      refine congrArg nI (ad_ext (ad_df_lt _ (hC j hj)) (ad_rm_lt hA a j hj) (fun i hi => ?_))
      rw [ad_rm_bit hi, ad_cl_bit hi]
      by_cases e : j = a
      · rw [if_pos e, Nat.zero_testBit, decide_eq_false (p := a ≠ j) (fun c => c e.symm), Bool.and_false, Bool.and_false]; rfl
      · rw [if_neg e, decide_eq_true (p := a ≠ j) (fun c => e c.symm), Bool.and_true]
  refine br_f (nI_pos (by omega)) (br_f (nI_nlt (a := 7) (b := a) (by omega) (by decide)) ?_)
  refine ad_yb rfl rfl hp (by omega) (fun hb => h28 1 (by rw [hb]; rfl)) (fun hb => h28 0 (by rw [hb]; rfl))
theorem ad_yput0 (hp : p < 256) {post : Int32 → SY → Prop} {x : Int32} {on : Bool} (hne : ∀ a, a < 8 → x = nI a → p.testBit a = on) (h : post 0 ((nI p), kn, wt, ya, yf, yw)) : wpY_put post ((nI p), kn, wt, ya, yf, yw) x (ad_bI on) := by
  unfold wpY_put
  refine br_c (fun _ => h) (fun z => ?_)
  obtain ⟨j, hj, rfl⟩ := nI_of z
  refine pk_lt 7 j (fun _ => h) (fun y => ?_)
  have e := hne j (by omega) rfl
  refine ad_yb rfl rfl hp (by omega) (fun hb => ?_) (fun hb => ?_)
  · unfold wY_put_28
    exact br_t (by rw [← e, hb]; rfl) h
  · unfold wY_put_28
    exact br_t (by rw [← e, hb]; rfl) h
theorem ad_xput (G : ad_XG p A xa xb hv) {post : Int32 → SX → Prop} {x : Int32} {on : Bool} (h0 : (∀ a, a < 8 → x = nI a → p.testBit a = on) → post 0 ((nI p), kn, gc, xa, xb, hv, fm, wk, ot, rf, gr, ct)) (h1 : ∀ a, a < 8 → x = nI a → p.testBit a ≠ on → ∀ xa xb, ad_XG (p ^^^ 2 ^ a) (ad_rm A a) xa xb hv → post 1 ((nI (p ^^^ 2 ^ a)), 0, gc, xa, xb, hv, fm, wk, ot, rf, gr, ct)) : wpX_put post ((nI p), kn, gc, xa, xb, hv, fm, wk, ot, rf, gr, ct) x (ad_bI on) := by
  unfold wpX_put
  obtain ⟨ho, hxa, hxb, hh⟩ := G
  refine br_c (fun z => h0 (fun a ha e => ?_)) (fun z => ?_)
  · rw [e] at z; exact absurd z (nI_pos (by omega))
  · obtain ⟨j, hj, rfl⟩ := nI_of z
    refine pk_lt 7 j (fun y => h0 (fun a ha e => ?_)) (fun y => ?_)
    · rw [nI_eq (by omega) (by omega)] at e; omega
    · have hj8 : j < 8 := by omega
      refine ad_xIn rfl rfl ho.1 (by omega) ?_
      refine br_c (fun e => h0 (fun a ha e2 => ?_)) (fun e => ?_)
      · rw [nI_eq (by omega) (by omega)] at e2; subst e2; exact ad_bIe.mp e
      · rw [ad_bIe] at e
        refine nm_r (e' := nI (p ^^^ 2 ^ j)) (by rw [ad_pw (by omega), nx_xor]) ?_
        have fin : ∀ xa xb, (∀ i, i < 8 → xa i = nI (ad_rm A j i)) → (∀ i, i < 8 → xb i = nI (ad_rm (ad_ak A) j i)) → post 1 ((nI (p ^^^ 2 ^ j)), 0, gc, xa, xb, hv, fm, wk, ot, rf, gr, ct) := fun xa xb ha hb => h1 j hj8 rfl e xa xb ⟨ad_rm_ok ho hj8, ha, fun i hi => by rw [hb i hi, ad_rm_ak hi], hh⟩
        cases on
        · exact ad_p39 hj8 ho.2.1 hxa hxb fin
        · have hpf : p.testBit j = false := by cases hb : p.testBit j <;> first | rfl | exact absurd hb e
          refine ⟨1, br_f (ad_l8 (i := 0) (by decide)) (br_f (by decide) (ad_p85 hj8 (fun i hi => ?_) (fun i hi => ?_) fin))⟩
          · rw [ad_rm_id ho hj8 hpf i hi]; exact hxa i hi
          · rw [ad_rm_id2 ho hj8 hpf i hi]; exact hxb i hi
end PUT
theorem i_vc_put {k : Nat} {u : SX} {v : SY} (I : i_Rel k u v) (hk : k + 4 ≤ 2048) (v1 : Int32) (v2 : Int32) : wpX_put (fun r u' => wpY_put (fun r' v' => r' = r ∧ i_Rel (k + 4) u' v') v v1 (lw_bz v2)) u v1 (lw_bz v2) := by
  obtain ⟨p, A, R⟩ := I
  obtain ⟨pr, kn, gc, xa, xb, hv, fm, wk, ot, rf, gr, ct⟩ := u
  obtain ⟨th, kn2, wt, ya, yf, yw⟩ := v
  obtain ⟨rfl, rfl, rfl, G, hy, hK⟩ := R
  obtain ⟨on, eon⟩ := ad_bzB v2
  rw [eon]
  refine ad_xput G (fun h0 => ad_yput0 G.1.1 h0 ⟨rfl, p, A, rfl, rfl, rfl, G, hy, hK⟩) (fun a ha e hne xa xb G2 => ?_)
  subst e
  exact ad_yput G.1.1 G.1.2.1 hy ha hne (fun ya hya => ⟨rfl, ad_R0 G2 hya⟩)
end
section
/-! attack, attackers -/
section ATT
variable {p : Nat} {A : Nat → Nat} {kn gc : Int32} {xa xb : Nat → Int32} {hv fm wk ot rf : Nat → Int64} {gr ct : Nat → Int32} {wt : Int32} {ya yf yw : Nat → Int32}
/-- attack a b turned over -/
def ad_tn (A : Nat → Nat) (a b j : Nat) : Nat := if j = a then A j ^^^ 2 ^ b else A j
theorem ad_tn_bit {A : Nat → Nat} {a b j i : Nat} : (ad_tn A a b j).testBit i = ((A j).testBit i ^^ (decide (j = a) && decide (b = i))) := by
  unfold ad_tn
  by_cases e : j = a
  · rw [if_pos e, Nat.testBit_xor, Nat.testBit_two_pow, decide_eq_true e, Bool.true_and]
  · rw [if_neg e, decide_eq_false e, Bool.false_and, Bool.xor_false]
theorem ad_tn_lt {A : Nat → Nat} {a b : Nat} (hb : b < 8) {j : Nat} (hj : A j < 256) : ad_tn A a b j < 256 := by
  unfold ad_tn; split
  · exact ad_xor_lt hj (ad_pw_lt hb)
  · exact hj
theorem ad_tn_ak {A : Nat → Nat} {a b j : Nat} (ha : a < 8) : ad_ak (ad_tn A a b) j = ad_tn (ad_ak A) b a j := by
  refine ad_ext (ad_ak_lt _ j) (ad_tn_lt ha (ad_ak_lt A j)) (fun i hi => ?_)
  rw [ad_ak_bit _ j hi, ad_tn_bit, ad_tn_bit, ad_ak_bit A j hi]
  congr 1
  rw [Bool.and_comm, decide_eq_decide.mpr (⟨fun e => e.symm, fun e => e.symm⟩ : b = j ↔ j = b), decide_eq_decide.mpr (⟨fun e => e.symm, fun e => e.symm⟩ : i = a ↔ a = i)]
theorem ad_tn_ok (h : ad_ok p A) {a b : Nat} (ha : a < 8) (hb : b < 8) (pa : p.testBit a = true) (pb : p.testBit b = true) : ad_ok p (ad_tn A a b) := by
  refine ⟨h.1, fun j hj => ad_tn_lt hb (h.2.1 j hj), fun c d hc hd z => ?_⟩
  rw [ad_tn_bit] at z
  by_cases e : c = a ∧ b = d
  · rw [e.1, ← e.2]; exact ⟨pa, pb⟩
  · have e2 : (decide (c = a) && decide (b = d)) = false := by
      cases h1 : (decide (c = a) && decide (b = d))
      · rfl
      · rw [Bool.and_eq_true, decide_eq_true_iff, decide_eq_true_iff] at h1; exact absurd h1 e
    rw [e2, Bool.xor_false] at z
    exact h.2.2 c d hc hd z
theorem ad_updtn {f : Nat → Int32} {C : Nat → Nat} {a b : Nat} {x : Int32} (h : ∀ j, j < 8 → f j = nI (C j)) (hx : x = nI (C a ^^^ 2 ^ b)) : ∀ j, j < 8 → upd f a x j = nI (ad_tn C a b j) := by
  intro j hj
  unfold ad_tn
  by_cases e : j = a
  · rw [if_pos e, e, pk_us, hx]
  · rw [if_neg e, pk_un e]; exact h j hj
theorem ad_XGtn (G : ad_XG p A xa xb hv) {a b : Nat} (ha : a < 8) (hb : b < 8) (pa : p.testBit a = true) (pb : p.testBit b = true) {x y : Int32} (hx : x = nI (A a ^^^ 2 ^ b)) (hy : y = nI (ad_ak A b ^^^ 2 ^ a)) : ad_XG p (ad_tn A a b) (upd xa a x) (upd xb b y) hv :=
  ⟨ad_tn_ok G.1 ha hb pa pb, ad_updtn G.2.1 hx, fun j hj => by rw [ad_tn_ak ha]; exact ad_updtn G.2.2.1 hy j hj, G.2.2.2⟩
/-- which a, b and on are refused -/
def ad_no (p : Nat) (A : Nat → Nat) (x y : Int32) (on : Bool) : Prop := ∀ a b, a < 8 → b < 8 → x = nI a → y = nI b → p.testBit a = true → p.testBit b = true → (A a).testBit b = on
theorem ad_xat (G : ad_XG p A xa xb hv) {post : Int32 → SX → Prop} {x y : Int32} {on : Bool} (h0 : ad_no p A x y on → post 0 ((nI p), kn, gc, xa, xb, hv, fm, wk, ot, rf, gr, ct)) (h1 : ∀ a b, a < 8 → b < 8 → x = nI a → y = nI b → p.testBit a = true → p.testBit b = true → (A a).testBit b ≠ on → ∀ xa xb, ad_XG p (ad_tn A a b) xa xb hv → post 1 ((nI p), 0, gc, xa, xb, hv, fm, wk, ot, rf, gr, ct)) : wpX_attack post ((nI p), kn, gc, xa, xb, hv, fm, wk, ot, rf, gr, ct) x y (ad_bI on) := by
  unfold wpX_attack
  refine ad_xth G.1.1 (fun z => br_t rfl (h0 (fun a b ha hb e1 _ _ _ => absurd e1 (z a ha)))) (fun a ha e1 => ad_bb rfl (fun z => h0 (fun c b hc hb e2 _ pa _ => ?_)) (fun pa => ?_))
  · rw [e1, nI_eq (by omega) (by omega)] at e2; subst e2; rw [z] at pa; exact absurd pa (by decide)
  · refine ad_xth G.1.1 (fun z => br_t rfl (h0 (fun c b hc hb _ e2 _ _ => absurd e2 (z b hb)))) (fun b hb e2 => ad_bb rfl (fun z => h0 (fun c d hc hd _ e3 _ pb => ?_)) (fun pb => ?_))
    · rw [e2, nI_eq (by omega) (by omega)] at e3; subst e3; rw [z] at pb; exact absurd pb (by decide)
    · subst e1 e2
      refine ⟨ad_in ha (by decide), ad_xIn (ad_cA G.2.1 ha (by decide)) rfl (G.1.2.1 a ha) (by omega) (br_c (fun e => h0 (fun c d hc hd e3 e4 _ _ => ?_)) (fun e => ?_))⟩
      · rw [nI_eq (by omega) (by omega)] at e3 e4; subst e3 e4; exact ad_bIe.mp e
      · rw [ad_bIe] at e
        refine ⟨ad_in ha (by decide), ad_in ha (by decide), nm_e ⟨ad_in hb (by decide), ad_in hb (by decide), nm_e ?_⟩⟩
        rw [ad_c (by omega), ad_c (by omega)]
        refine h1 a b ha hb rfl rfl pa pb e _ _ (ad_XGtn G ha hb pa pb ?_ ?_)
        · rw [G.2.1 a ha, ad_pw (by omega), nx_xor, ad_sh (ad_xor_lt (G.1.2.1 a ha) (ad_pw_lt hb))]
        · rw [G.2.2.1 b hb, ad_pw (by omega), nx_xor, ad_sh (ad_xor_lt (ad_ak_lt A b) (ad_pw_lt ha))]
theorem ad_yat1 (G : ad_YG p A ya) {post : Int32 → SY → Prop} {a b : Nat} (ha : a < 8) (hb : b < 8) (pa : p.testBit a = true) (pb : p.testBit b = true) {on : Bool} (hne : (A a).testBit b ≠ on) (h : ∀ ya, (∀ j, j < 8 → ya j = nI (ad_tn A a b j)) → post 1 ((nI p), 0, wt, ya, yf, yw)) : wpY_attack post ((nI p), kn, wt, ya, yf, yw) (nI a) (nI b) (ad_bI on) := by
  unfold wpY_attack
  refine ad_yth G.1.1 (fun z => absurd rfl (z a ha)) (fun a2 ha2 e1 => ?_)
  rw [nI_eq (by omega) (by omega)] at e1
  subst e1
  refine ad_bb rfl (fun z => by rw [pa] at z; exact absurd z (by decide)) (fun _ => ?_)
  refine ad_yth G.1.1 (fun z => absurd rfl (z b hb)) (fun b2 hb2 e1 => ?_)
  rw [nI_eq (by omega) (by omega)] at e1
  subst e1
  refine ad_bb rfl (fun z => by rw [pb] at z; exact absurd z (by decide)) (fun _ => ⟨ad_in ha (by decide), ?_⟩)
  have h36 : ∀ z0 : Int32, z0 = ad_bI ((A a).testBit b) → wY_attack_36 post (nI a) (nI b) z0 (ad_bI on) (nI p) kn wt ya yf yw := by
    intro z0 hz
    unfold wY_attack_36
    refine br_f (by rw [hz, ad_bIe]; exact fun c => hne c.symm) ⟨ad_in ha (by decide), ad_in ha (by decide), nm_r (e' := upd ya a (nI (A a ^^^ 2 ^ b))) (by rw [ad_c (by omega), G.2 a ha, ad_pw (by omega), nx_xor]) (h _ (ad_updtn G.2 rfl))⟩
  exact ad_yb (ad_cA G.2 ha (by decide)) rfl (G.1.2.1 a ha) (by omega) (fun hc => h36 1 (by rw [hc]; rfl)) (fun hc => h36 0 (by rw [hc]; rfl))
theorem ad_yat0 (G : ad_YG p A ya) {post : Int32 → SY → Prop} {x y : Int32} {on : Bool} (hno : ad_no p A x y on) (h : post 0 ((nI p), kn, wt, ya, yf, yw)) : wpY_attack post ((nI p), kn, wt, ya, yf, yw) x y (ad_bI on) := by
  unfold wpY_attack
  refine ad_yth G.1.1 (fun _ => br_t rfl h) (fun a ha e1 => ad_bb rfl (fun _ => h) (fun pa => ?_))
  refine ad_yth G.1.1 (fun _ => br_t rfl h) (fun b hb e2 => ad_bb rfl (fun _ => h) (fun pb => ?_))
  have e := hno a b ha hb e1 e2 pa pb
  subst e1 e2
  refine ⟨ad_in ha (by decide), ad_yb (ad_cA G.2 ha (by decide)) rfl (G.1.2.1 a ha) (by omega) (fun hc => ?_) (fun hc => ?_)⟩
  · unfold wY_attack_36
    exact br_t (by rw [← e, hc]; rfl) h
  · unfold wY_attack_36
    exact br_t (by rw [← e, hc]; rfl) h
end ATT
theorem i_vc_attack {k : Nat} {u : SX} {v : SY} (I : i_Rel k u v) (hk : k + 4 ≤ 2048) (v1 : Int32) (v2 : Int32) (v3 : Int32) : wpX_attack (fun r u' => wpY_attack (fun r' v' => r' = r ∧ i_Rel (k + 4) u' v') v v1 v2 (lw_bz v3)) u v1 v2 (lw_bz v3) := by
  obtain ⟨p, A, R⟩ := I
  obtain ⟨pr, kn, gc, xa, xb, hv, fm, wk, ot, rf, gr, ct⟩ := u
  obtain ⟨th, kn2, wt, ya, yf, yw⟩ := v
  obtain ⟨rfl, rfl, rfl, G, hy, hK⟩ := R
  obtain ⟨on, eon⟩ := ad_bzB v3
  rw [eon]
  refine ad_xat G (fun h0 => ad_yat0 ⟨G.1, hy⟩ h0 ⟨rfl, p, A, rfl, rfl, rfl, G, hy, hK⟩) (fun a b ha hb e1 e2 pa pb hne xa xb G2 => ?_)
  subst e1 e2
  exact ad_yat1 ⟨G.1, hy⟩ ha hb pa pb hne (fun ya hya => ⟨rfl, ad_R0 G2 hya⟩)
theorem i_vc_attackers {k : Nat} {u : SX} {v : SY} (I : i_Rel k u v) (hk : k + 4 ≤ 2048) (v1 : Int32) : wpX_attackers (fun r => wpY_attackers (fun r' => r' = r ∧ i_Rel (k + 4) u v) v v1) u v1 := by
  have I2 := i_up I
  obtain ⟨p, A, R⟩ := I
  obtain ⟨pr, kn, gc, xa, xb, hv, fm, wk, ot, rf, gr, ct⟩ := u
  obtain ⟨th, kn2, wt, ya, yf, yw⟩ := v
  obtain ⟨rfl, rfl, rfl, G, hy, hK⟩ := R
  have GY : ad_YG p A ya := ⟨G.1, hy⟩
  unfold wpX_attackers
  refine ad_xth G.1.1 (fun z => br_t rfl (ad_yat GY (fun _ => ⟨rfl, I2⟩) (fun a ha e _ => absurd e (z a ha)))) (fun a ha e => ad_bb rfl (fun z => ad_yat GY (fun _ => ⟨rfl, I2⟩) (fun b hb e2 pb => ?_)) (fun z => ⟨?_, ad_yat GY (fun y => absurd e (y a ha z)) (fun b hb e2 pb => ⟨?_, I2⟩)⟩))
  · rw [e, nI_eq (by omega) (by omega)] at e2; subst e2; rw [z] at pb; exact absurd pb (by decide)
  · rw [e]; exact ad_in ha (by decide)
  · rw [e, nI_eq (by omega) (by omega)] at e2; subst e2; rw [e, ad_cA G.2.2.1 ha (by decide)]
end
section
/-! count, is, set, some, every, agree -/
def ad_cn (f : Nat → Bool) : Nat → Nat
  | 0 => 0
  | n + 1 => if f n = true then ad_cn f n + 1 else ad_cn f n
theorem ad_cn_t {f : Nat → Bool} {n : Nat} (h : f n = true) : ad_cn f (n + 1) = ad_cn f n + 1 := if_pos h
theorem ad_cn_f {f : Nat → Bool} {n : Nat} (h : f n = false) : ad_cn f (n + 1) = ad_cn f n := if_neg (by rw [h]; decide)
def ad_so (f : Nat → Bool) : Nat → Nat
  | 0 => 0
  | n + 1 => if f n = true then ad_so f n ||| n else ad_so f n
theorem ad_so_t {f : Nat → Bool} {n : Nat} (h : f n = true) : ad_so f (n + 1) = ad_so f n ||| n := if_pos h
theorem ad_so_f {f : Nat → Bool} {n : Nat} (h : f n = false) : ad_so f (n + 1) = ad_so f n := if_neg (by rw [h]; decide)
theorem ad_so_lt (f : Nat → Bool) (n : Nat) (hn : n ≤ 256) : ad_so f n < 256 := by
  induction n with
  | zero => exact (by decide : 0 < 256)
  | succ n ih =>
    cases hb : f n
    · rw [ad_so_f hb]; exact ih (by omega)
    · rw [ad_so_t hb]; exact ad_or_lt (ih (by omega)) (by omega)
theorem ad_so_bit (f : Nat → Bool) (n i : Nat) : (ad_so f n).testBit i = ad_an (fun s => f s && s.testBit i) n := by
  induction n with
  | zero => exact Nat.zero_testBit i
  | succ n ih =>
    rw [ad_an]
    cases hb : f n
    · rw [ad_so_f hb, ih, Bool.false_and, Bool.or_false]
    · rw [ad_so_t hb, Nat.testBit_or, ih, Bool.true_and]
def ad_sof (f : Nat → Bool) (a : Nat) : Bool := ad_an (fun s => f s && s.testBit a) 256
theorem ad_so_mk (f : Nat → Bool) : ad_mk (ad_sof f) 8 = ad_so f 256 := ad_ext (ad_mk_l8 _) (ad_so_lt f 256 (Nat.le_refl _)) (fun i hi => by rw [ad_mk8 _ hi, ad_so_bit]; rfl)
section ASK
variable {p : Nat} {A : Nat → Nat} {kn gc : Int32} {xa xb : Nat → Int32} {hv fm wk ot rf : Nat → Int64} {gr ct : Nat → Int32} {wt : Int32} {ya yf yw : Nat → Int32}
theorem ad_xcn {post : Int32 → SX → Prop} {k : Nat} {F : Nat → Bool} (hk : k < 12) (hF : ∀ s, s < 256 → ad_xf fm (4 * k) s = F s) (h : post (nI (ad_cn F 256)) ((nI p), kn, gc, xa, xb, hv, fm, wk, ot, rf, gr, ct)) : ∃ n, wX_count_18 post (nI k) (nI p) kn gc xa xb hv fm wk ot rf gr ct n 0 0 := by
  refine loop_0 (fun n i c => wX_count_18 post (nI k) (nI p) kn gc xa xb hv fm wk ot rf gr ct n c (nI i)) (fun i c => c = nI (ad_cn F i)) 256 0 nI_0.symm ?_ ?_
  · intro n c hc
    exact br_t ad_g256 (by rw [hc]; exact h)
  · intro n i c hi hc K
    refine br_f (ad_l256 hi) (ad_xifb rfl rfl hk hi (fun z => ?_) (fun z => ?_))
    · rw [hF i hi] at z
      exact nm_r (nI_1 i) (K c (by rw [hc, ad_cn_f z]))
    · rw [hF i hi] at z
      exact nm_e (nm_r (nI_1 i) (K _ (by rw [hc, ad_cn_t z, nI_1])))
theorem ad_ycn {post : Int32 → SY → Prop} {k : Nat} {F : Nat → Bool} (hk : k < 12) (hF : ad_yF yf k F) (h : post (nI (ad_cn F 256)) ((nI p), kn, wt, ya, yf, yw)) : ∃ n, wY_count_18 post (nI k) (nI p) kn wt ya yf yw n 0 0 := by
  refine loop_0 (fun n i c => wY_count_18 post (nI k) (nI p) kn wt ya yf yw n c (nI i)) (fun i c => c = nI (ad_cn F i)) 256 0 nI_0.symm ?_ ?_
  · intro n c hc
    exact br_t ad_g256 (by rw [hc]; exact h)
  · intro n i c hi hc K
    refine br_f (ad_l256 hi) ⟨ad_yi k i hk hi, ad_bb (b := F i) (by rw [ad_yc k i hk hi]; exact hF i hi) (fun z => ?_) (fun z => ?_)⟩
    · exact nm_r (nI_1 i) (K c (by rw [hc, ad_cn_f z]))
    · exact nm_e (nm_r (nI_1 i) (K _ (by rw [hc, ad_cn_t z, nI_1])))
theorem ad_xso (G : ad_XG p A xa xb hv) {post : Int32 → SX → Prop} {k : Nat} {F : Nat → Bool} (hk : k < 12) (hF : ∀ s, s < 256 → ad_xf fm (4 * k) s = F s) (h : post (nI (ad_so F 256)) ((nI p), kn, gc, xa, xb, hv, fm, wk, ot, rf, gr, ct)) : ∃ n, wX_some_18 post (nI k) (nI p) kn gc xa xb hv fm wk ot rf gr ct n 0 0 := by
  refine loop_0 (fun n i c => wX_some_18 post (nI k) (nI p) kn gc xa xb hv fm wk ot rf gr ct n c (nI i)) (fun i c => c = nI (ad_mk (ad_sof F) i)) 8 0 nI_0.symm ?_ ?_
  · intro n c hc
    rw [ad_so_mk] at hc
    exact br_t ad_g8 (by rw [hc]; exact h)
  · intro n i c hi hc K
    refine br_f (ad_l8 hi) (ad_xme (t := false) G rfl rfl (fun j _ => ad_w_0 j) hk hi ?_)
    have e : ad_an (fun s => ad_xf fm (4 * k) s && (s.testBit i ^^ false)) 256 = ad_sof F i := by
      unfold ad_sof
      exact ad_an_c (fun s hs => by rw [hF s hs, Bool.xor_false])
    rw [e]
    refine ad_bb rfl (fun z => ?_) (fun z => ?_)
    · exact nm_r (nI_1 i) (K c (by rw [hc, ad_mk_f z]))
    · refine nm_e (nm_r (nI_1 i) (K _ ?_))
      show c ||| ((1 : Int32) <<< (nI i &&& 31)) = _
      rw [ad_pw (by omega), hc, ad_or, ad_mk_t z]
theorem ad_yso {post : Int32 → SY → Prop} {k : Nat} {F : Nat → Bool} (hk : k < 12) (hF : ad_yF yf k F) (h : post (nI (ad_so F 256)) ((nI p), kn, wt, ya, yf, yw)) : ∃ n, wY_some_18 post (nI k) (nI p) kn wt ya yf yw n 0 0 := by
  refine loop_0 (fun n i c => wY_some_18 post (nI k) (nI p) kn wt ya yf yw n c (nI i)) (fun i c => c = nI (ad_so F i)) 256 0 nI_0.symm ?_ ?_
  · intro n c hc
    exact br_t ad_g256 (by rw [hc]; exact h)
  · intro n i c hi hc K
    refine br_f (ad_l256 hi) ⟨ad_yi k i hk hi, ad_bb (b := F i) (by rw [ad_yc k i hk hi]; exact hF i hi) (fun z => ?_) (fun z => ?_)⟩
    · exact nm_r (nI_1 i) (K c (by rw [hc, ad_so_f z]))
    · refine nm_e (nm_r (nI_1 i) (K _ ?_))
      show c ||| nI i = _
      rw [hc, ad_or, ad_so_t z]
def ad_sr (F : Nat → Bool) : Nat → Nat → Int32 → Int32
  | 0, _, _ => -2
  | d + 1, i, l => if F i = true then (if l = 0 then nI i else ad_sr F d (i + 1) (l + (-1))) else ad_sr F d (i + 1) l
theorem ad_sr_f {F : Nat → Bool} {d i : Nat} {l : Int32} (h : F i = false) : ad_sr F (d + 1) i l = ad_sr F d (i + 1) l := if_neg (by rw [h]; decide)
theorem ad_sr_0 {F : Nat → Bool} {d i : Nat} {l : Int32} (h : F i = true) (h0 : l = 0) : ad_sr F (d + 1) i l = nI i := by rw [ad_sr, if_pos h, if_pos h0]
theorem ad_sr_n {F : Nat → Bool} {d i : Nat} {l : Int32} (h : F i = true) (h0 : ¬ l = 0) : ad_sr F (d + 1) i l = ad_sr F d (i + 1) (l + (-1)) := by rw [ad_sr, if_pos h, if_neg h0]
theorem ad_xset2 {k : Nat} {F : Nat → Bool} (hk : k < 12) (hF : ∀ s, s < 256 → ad_xf fm (4 * k) s = F s) {post : Int32 → SX → Prop} : ∀ d i (l : Int32), i + d = 256 → post (ad_sr F d i l) ((nI p), kn, gc, xa, xb, hv, fm, wk, ot, rf, gr, ct) → wX_set_19 post (nI k) (nI p) kn gc xa xb hv fm wk ot rf gr ct (d + 1) l (nI i) := by
  intro d
  induction d with
  | zero =>
    intro i l hi h
    have e : i = 256 := by omega
    subst e
    exact br_t ad_g256 h
  | succ d ih =>
    intro i l hi h
    have hi2 : i < 256 := by omega
    refine br_f (ad_l256 hi2) (ad_xifb rfl rfl hk hi2 (fun z => nm_r (nI_1 i) ?_) (fun z => br_c (fun l0 => ?_) (fun l0 => nm_e (nm_r (nI_1 i) ?_))))
    · rw [hF i hi2] at z
      rw [ad_sr_f z] at h
      exact ih (i + 1) l (by omega) h
    · rw [hF i hi2] at z
      rw [ad_sr_0 z l0] at h
      exact h
    · rw [hF i hi2] at z
      rw [ad_sr_n z l0] at h
      exact ih (i + 1) _ (by omega) h
theorem ad_yset2 {k : Nat} {F : Nat → Bool} {x : Int32} (hk : k < 12) (hF : ad_yF yf k F) {post : Int32 → SY → Prop} : ∀ d i (l b : Int32), i + d = 256 → l + b = x → post (ad_sr F d i l) ((nI p), kn, wt, ya, yf, yw) → wY_set_19 post (nI k) x (nI p) kn wt ya yf yw (d + 1) b (nI i) := by
  intro d
  induction d with
  | zero =>
    intro i l b hi hl h
    have e : i = 256 := by omega
    subst e
    exact br_t ad_g256 h
  | succ d ih =>
    intro i l b hi hl h
    have hi2 : i < 256 := by omega
    refine br_f (ad_l256 hi2) ⟨ad_yi k i hk hi2, ad_bb (b := F i) (by rw [ad_yc k i hk hi2]; exact hF i hi2) (fun z => nm_r (nI_1 i) ?_) (fun z => br_c (fun b0 => ?_) (fun b0 => nm_e (nm_r (nI_1 i) ?_)))⟩
    · rw [ad_sr_f z] at h
      exact ih (i + 1) l b (by omega) hl h
    · have l0 : l = 0 := by
        rw [b0] at hl
        have e2 := congrArg (fun z => z - x) hl
        simp only [Int32.add_sub_cancel, Int32.sub_self] at e2
        exact e2
      rw [ad_sr_0 z l0] at h
      exact h
    · have l0 : ¬ l = 0 := by
        intro c
        apply b0
        rw [← hl, c, Int32.zero_add]
      rw [ad_sr_n z l0] at h
      refine ih (i + 1) (l + (-1)) (b + 1) (by omega) ?_ h
      rw [← hl, Int32.add_assoc, ← Int32.add_assoc (-1) b 1, Int32.add_comm (-1) b, Int32.add_assoc b (-1) 1, show (-1 : Int32) + 1 = 0 from by decide, Int32.add_zero]
def ad_ag (F H : Nat → Bool) : Bool := ad_al (fun s => decide (F s = H s)) 256
theorem ad_xag {post : Int32 → SX → Prop} {k m : Nat} {F H : Nat → Bool} (hk : k < 12) (hm : m < 12) (hF : ∀ s, s < 256 → ad_xf fm (4 * k) s = F s) (hH : ∀ s, s < 256 → ad_xf fm (4 * m) s = H s) (h : post (ad_bI (ad_ag F H)) ((nI p), kn, gc, xa, xb, hv, fm, wk, ot, rf, gr, ct)) : ∃ n, wX_agree_24 post (nI k) (nI m) (nI p) kn gc xa xb hv fm wk ot rf gr ct n 0 := by
  refine loop_0 (fun n i (_ : Unit) => wX_agree_24 post (nI k) (nI m) (nI p) kn gc xa xb hv fm wk ot rf gr ct n (nI i)) (fun i _ => ∀ s, s < 64 * i → F s = H s) 4 () (fun s hs => by omega) ?_ ?_
  · intro n c hc
    have e : ad_ag F H = true := ad_al_iff.mpr (fun s hs => decide_eq_true (hc s (by omega)))
    rw [e] at h
    exact br_t ad_g4 h
  · intro n i c hi hc K
    have key : ∀ j, j < 64 → ad_w (fm (4 * k + i)) j = F (64 * i + j) ∧ ad_w (fm (4 * m + i)) j = H (64 * i + j) := fun j hj => ⟨by rw [ad_xfw hj]; exact hF _ (by omega), by rw [ad_xfw hj]; exact hH _ (by omega)⟩
    refine br_f (ad_l4 hi) ⟨ad_in4 (by omega) (by decide), ad_in4 (by omega) (by decide), ?_⟩
    rw [ad_c4 (by omega), ad_c4 (by omega)]
    refine br_c (fun e => nm_r (nI_1 i) (K () (fun s hs => ?_))) (fun e => ?_)
    · rcases Nat.lt_or_ge s (64 * i) with q | q
      · exact hc s q
      · have e2 := key (s - 64 * i) (by omega)
        rw [e, show 64 * i + (s - 64 * i) = s by omega] at e2
        rw [← e2.1, e2.2]
    · have e2 : ad_ag F H = false := by
        cases hb : ad_ag F H
        · rfl
        · exfalso
          apply e
          apply ad_w_ext
          intro j hj
          rw [(key j hj).1, (key j hj).2]
          exact of_decide_eq_true (ad_al_iff.mp hb (64 * i + j) (by omega))
      rw [e2] at h
      exact h
theorem ad_yag {post : Int32 → SY → Prop} {k m : Nat} {F H : Nat → Bool} (hk : k < 12) (hm : m < 12) (hF : ad_yF yf k F) (hH : ad_yF yf m H) (h : post (ad_bI (ad_ag F H)) ((nI p), kn, wt, ya, yf, yw)) : ∃ n, wY_agree_24 post (nI k) (nI m) (nI p) kn wt ya yf yw n 0 := by
  refine loop_0 (fun n i (_ : Unit) => wY_agree_24 post (nI k) (nI m) (nI p) kn wt ya yf yw n (nI i)) (fun i _ => ∀ s, s < i → F s = H s) 256 () (fun s hs => by omega) ?_ ?_
  · intro n c hc
    have e : ad_ag F H = true := ad_al_iff.mpr (fun s hs => decide_eq_true (hc s hs))
    rw [e] at h
    exact br_t ad_g256 h
  · intro n i c hi hc K
    refine br_f (ad_l256 hi) ⟨ad_yi k i hk hi, ad_yi m i hm hi, ?_⟩
    rw [ad_yc k i hk hi, ad_yc m i hm hi, hF i hi, hH i hi]
    refine br_c (fun e => nm_r (nI_1 i) (K () (fun s hs => ?_))) (fun e => ?_)
    · by_cases q : s = i
      · rw [q]; exact ad_bIe.mp e
      · exact hc s (by omega)
    · have e2 : ad_ag F H = false := ad_al_no.mpr ⟨i, hi, decide_eq_false (fun c => e (by rw [c]))⟩
      rw [e2] at h
      exact h
/-- a set of those that are there, as the component asks it -/
theorem ad_xset {P Q : Prop} {x : Int32} (hp : p < 256) (h0 : (∀ s, s < 256 → ad_le s p → x ≠ nI s) → P) (h1 : ∀ s, s < 256 → x = nI s → ad_le s p → Q) : ((x < 0 → P) ∧ (¬ x < 0 → (((x &&& (nI p ^^^ (-1))) = 0 → Q) ∧ (¬ (x &&& (nI p ^^^ (-1))) = 0 → P)))) := by
  refine br_c (fun z => h0 (fun a ha _ e => ?_)) (fun z => ?_)
  · rw [e] at z; exact absurd z (nI_pos (by omega))
  · obtain ⟨j, hj, rfl⟩ := nI_of z
    rw [ad_dfI]
    have hle : ad_df j p ≤ j := Nat.and_le_left
    rw [← nI_0, nI_eq (by omega) (by omega)]
    refine br_c (fun e => ?_) (fun e => h0 (fun a ha hl e2 => e ?_))
    · have hj8 : j < 2 ^ 8 := by
        apply Nat.lt_pow_two_of_testBit
        intro i hi
        rcases Nat.lt_or_ge i 32 with q | q
        · have := ad_df_bit (a := j) (b := p) q
          rw [e, Nat.zero_testBit, ad_hi hp hi] at this
          simpa using this.symm
        · apply Nat.testBit_lt_two_pow
          have : 2 ^ 32 ≤ 2 ^ i := Nat.pow_le_pow_right (by decide) q
          omega
      exact h1 j hj8 rfl ((ad_df0 hj8).mp e)
    · rw [nI_eq (by omega) (by omega)] at e2
      subst e2
      exact (ad_df0 ha).mpr hl
end ASK
theorem i_vc_count {k : Nat} {u : SX} {v : SY} (I : i_Rel k u v) (hk : k + 4 ≤ 2048) (v1 : Int32) : wpX_count (fun r u' => wpY_count (fun r' v' => r' = r ∧ i_Rel (k + 4) u' v') v v1) u v1 := by
  have I2 := i_up I
  obtain ⟨p, A, R⟩ := I
  obtain ⟨pr, kn, gc, xa, xb, hv, fm, wk, ot, rf, gr, ct⟩ := u
  obtain ⟨th, kn2, wt, ya, yf, yw⟩ := v
  obtain ⟨rfl, rfl, rfl, G, hy, hK⟩ := R
  have GY : ad_YG p A ya := ⟨G.1, hy⟩
  unfold wpX_count
  refine ad_xse (fun z => br_t rfl ?_) (fun m hm e => br_f (by decide) ?_)
  · unfold wpY_count
    exact ad_yse (fun _ => br_t rfl ⟨rfl, I2⟩) (fun m hm e => absurd e (z m hm))
  · subst e
    refine ad_xfa G (hK.imp id (fun h => ⟨h.1, h.2.1⟩)) (fun fm wk ot rf gc gr ct hf => ad_xcn hm (hf m hm) ?_)
    unfold wpY_count
    refine ad_yse (fun z => absurd rfl (z m hm)) (fun _ _ _ => br_f (by decide) ?_)
    refine ad_ywo GY (hK.imp id (fun h => ⟨h.1, h.2.2⟩)) (fun wt yf yw hg => ad_ycn hm (hg m hm) ⟨rfl, ad_R1 G hy hf hg⟩)
theorem i_vc_is {k : Nat} {u : SX} {v : SY} (I : i_Rel k u v) (hk : k + 4 ≤ 2048) (v1 : Int32) (v2 : Int32) : wpX_is (fun r u' => wpY_is (fun r' v' => r' = r ∧ i_Rel (k + 4) u' v') v v1 v2) u v1 v2 := by
  have I2 := i_up I
  obtain ⟨p, A, R⟩ := I
  obtain ⟨pr, kn, gc, xa, xb, hv, fm, wk, ot, rf, gr, ct⟩ := u
  obtain ⟨th, kn2, wt, ya, yf, yw⟩ := v
  obtain ⟨rfl, rfl, rfl, G, hy, hK⟩ := R
  have GY : ad_YG p A ya := ⟨G.1, hy⟩
  unfold wpX_is
  refine ad_xse (fun z => br_t rfl ?_) (fun m hm e => br_f (by decide) (ad_xset G.1.1 (fun z => ?_) (fun s hs e2 hl => ?_)))
  · unfold wpY_is
    exact ad_yse (fun _ => br_t rfl ⟨rfl, I2⟩) (fun m hm e => absurd e (z m hm))
  · unfold wpY_is
    exact ad_yse (fun z => absurd e (z m hm)) (fun _ _ _ => br_f (by decide) (ad_yis G.1.1 (fun _ => br_t rfl ⟨rfl, I2⟩) (fun s hs e3 hl => absurd e3 (z s hs hl))))
  · subst e e2
    refine ad_xfa G (hK.imp id (fun h => ⟨h.1, h.2.1⟩)) (fun fm wk ot rf gc gr ct hf => ad_xif rfl rfl hm hs ⟨ad_bIN _, ?_⟩)
    unfold wpY_is
    refine ad_yse (fun z => absurd rfl (z m hm)) (fun _ _ _ => br_f (by decide) (ad_yis G.1.1 (fun z => absurd rfl (z s hs hl)) (fun _ _ _ _ => br_f (by decide) ?_)))
    refine ad_ywo GY (hK.imp id (fun h => ⟨h.1, h.2.2⟩)) (fun wt yf yw hg => ⟨ad_yi m s hm hs, ?_⟩)
    rw [ad_yc m s hm hs, hg m hm s hs, hf m hm s hs]
    exact ⟨ad_bIN _, rfl, ad_R1 G hy hf hg⟩
theorem i_vc_set {k : Nat} {u : SX} {v : SY} (I : i_Rel k u v) (hk : k + 4 ≤ 2048) (v1 : Int32) (v2 : Int32) : wpX_set (fun r u' => wpY_set (fun r' v' => r' = r ∧ i_Rel (k + 4) u' v') v v1 v2) u v1 v2 := by
  have I2 := i_up I
  obtain ⟨p, A, R⟩ := I
  obtain ⟨pr, kn, gc, xa, xb, hv, fm, wk, ot, rf, gr, ct⟩ := u
  obtain ⟨th, kn2, wt, ya, yf, yw⟩ := v
  obtain ⟨rfl, rfl, rfl, G, hy, hK⟩ := R
  have GY : ad_YG p A ya := ⟨G.1, hy⟩
  unfold wpX_set
  refine ad_xse (fun z => br_t rfl ?_) (fun m hm e => br_f (by decide) ?_)
  · unfold wpY_set
    exact ad_yse (fun _ => br_t rfl ⟨rfl, I2⟩) (fun m hm e => absurd e (z m hm))
  · subst e
    refine ad_xfa G (hK.imp id (fun h => ⟨h.1, h.2.1⟩)) (fun fm wk ot rf gc gr ct hf => ?_)
    refine ⟨257, ad_xset2 hm (hf m hm) 256 0 v2 (by omega) ?_⟩
    unfold wpY_set
    refine ad_yse (fun z => absurd rfl (z m hm)) (fun _ _ _ => br_f (by decide) ?_)
    exact ad_ywo GY (hK.imp id (fun h => ⟨h.1, h.2.2⟩)) (fun wt yf yw hg => ⟨257, ad_yset2 hm (hg m hm) 256 0 v2 0 (by omega) (Int32.add_zero v2) ⟨rfl, ad_R1 G hy hf hg⟩⟩)
theorem i_vc_some {k : Nat} {u : SX} {v : SY} (I : i_Rel k u v) (hk : k + 4 ≤ 2048) (v1 : Int32) : wpX_some (fun r u' => wpY_some (fun r' v' => r' = r ∧ i_Rel (k + 4) u' v') v v1) u v1 := by
  have I2 := i_up I
  obtain ⟨p, A, R⟩ := I
  obtain ⟨pr, kn, gc, xa, xb, hv, fm, wk, ot, rf, gr, ct⟩ := u
  obtain ⟨th, kn2, wt, ya, yf, yw⟩ := v
  obtain ⟨rfl, rfl, rfl, G, hy, hK⟩ := R
  have GY : ad_YG p A ya := ⟨G.1, hy⟩
  unfold wpX_some
  refine ad_xse (fun z => br_t rfl ?_) (fun m hm e => br_f (by decide) ?_)
  · unfold wpY_some
    exact ad_yse (fun _ => br_t rfl ⟨rfl, I2⟩) (fun m hm e => absurd e (z m hm))
  · subst e
    refine ad_xfa G (hK.imp id (fun h => ⟨h.1, h.2.1⟩)) (fun fm wk ot rf gc gr ct hf => ad_xso G hm (hf m hm) ?_)
    unfold wpY_some
    refine ad_yse (fun z => absurd rfl (z m hm)) (fun _ _ _ => br_f (by decide) ?_)
    exact ad_ywo GY (hK.imp id (fun h => ⟨h.1, h.2.2⟩)) (fun wt yf yw hg => ad_yso hm (hg m hm) ⟨rfl, ad_R1 G hy hf hg⟩)
theorem i_vc_every {k : Nat} {u : SX} {v : SY} (I : i_Rel k u v) (hk : k + 4 ≤ 2048) (v1 : Int32) : wpX_every (fun r u' => wpY_every (fun r' v' => r' = r ∧ i_Rel (k + 4) u' v') v v1) u v1 := by
  have I2 := i_up I
  obtain ⟨p, A, R⟩ := I
  obtain ⟨pr, kn, gc, xa, xb, hv, fm, wk, ot, rf, gr, ct⟩ := u
  obtain ⟨th, kn2, wt, ya, yf, yw⟩ := v
  obtain ⟨rfl, rfl, rfl, G, hy, hK⟩ := R
  have GY : ad_YG p A ya := ⟨G.1, hy⟩
  unfold wpX_every
  refine ad_xse (fun z => br_t rfl ?_) (fun m hm e => br_f (by decide) ?_)
  · unfold wpY_every
    exact ad_yse (fun _ => br_t rfl ⟨rfl, I2⟩) (fun m hm e => absurd e (z m hm))
  · subst e
    refine ad_xfa G (hK.imp id (fun h => ⟨h.1, h.2.1⟩)) (fun fm wk ot rf gc gr ct hf => ad_xco G rfl hm ?_)
    rw [ad_cm_c (hf m hm)]
    unfold wpY_every
    refine ad_yse (fun z => absurd rfl (z m hm)) (fun _ _ _ => br_f (by decide) ?_)
    exact ad_ywo GY (hK.imp id (fun h => ⟨h.1, h.2.2⟩)) (fun wt yf yw hg => ad_yco GY rfl hm (hg m hm) ⟨rfl, ad_R1 G hy hf hg⟩)
theorem i_vc_agree {k : Nat} {u : SX} {v : SY} (I : i_Rel k u v) (hk : k + 4 ≤ 2048) (v1 : Int32) (v2 : Int32) : wpX_agree (fun r u' => wpY_agree (fun r' v' => r' = r ∧ i_Rel (k + 4) u' v') v v1 v2) u v1 v2 := by
  have I2 := i_up I
  obtain ⟨p, A, R⟩ := I
  obtain ⟨pr, kn, gc, xa, xb, hv, fm, wk, ot, rf, gr, ct⟩ := u
  obtain ⟨th, kn2, wt, ya, yf, yw⟩ := v
  obtain ⟨rfl, rfl, rfl, G, hy, hK⟩ := R
  have GY : ad_YG p A ya := ⟨G.1, hy⟩
  unfold wpX_agree
  refine ad_xse (fun z => br_t rfl ?_) (fun m hm e => br_f (by decide) (ad_xse (fun z => br_t rfl ?_) (fun q hq e2 => br_f (by decide) ?_)))
  · unfold wpY_agree
    exact ad_yse (fun _ => br_t rfl ⟨rfl, I2⟩) (fun m hm e => absurd e (z m hm))
  · unfold wpY_agree
    exact ad_yse (fun z => absurd e (z m hm)) (fun _ _ _ => br_f (by decide) (ad_yse (fun _ => br_t rfl ⟨rfl, I2⟩) (fun q hq e2 => absurd e2 (z q hq))))
  · subst e e2
    refine ad_xfa G (hK.imp id (fun h => ⟨h.1, h.2.1⟩)) (fun fm wk ot rf gc gr ct hf => ad_xag hm hq (hf m hm) (hf q hq) ?_)
    unfold wpY_agree
    refine ad_yse (fun z => absurd rfl (z m hm)) (fun _ _ _ => br_f (by decide) (ad_yse (fun z => absurd rfl (z q hq)) (fun _ _ _ => br_f (by decide) ?_)))
    exact ad_ywo GY (hK.imp id (fun h => ⟨h.1, h.2.2⟩)) (fun wt yf yw hg => ad_yag hm hq (hg m hm) (hg q hq) ⟨rfl, ad_R1 G hy hf hg⟩)
end
section
/-! round, weak, effort -/
section RND
variable {p : Nat} {A : Nat → Nat} {kn gc : Int32} {xa xb : Nat → Int32} {hv fm wk ot rf : Nat → Int64} {gr ct : Nat → Int32} {wt : Int32} {ya yf yw : Nat → Int32}
theorem ad_rnd (G : ad_XG p A xa xb hv) (GY : ad_YG p A ya) {a : Nat} (ha : a < 8) : ∀ d i s, i + d = 9 → s < 256 → ∃ r : Int32, (∀ post : Int32 → Prop, post r → wX_round_14 post (nI a) (nI p) kn gc xa xb hv fm wk ot rf gr ct (d + 1) (nI s) (nI i)) ∧ (∀ post : Int32 → Prop, post r → wY_round_14 post (nI a) (nI p) kn wt ya yf yw (d + 1) (nI s) (nI i)) := by
  intro d
  induction d with
  | zero =>
    intro i s hi hs
    have h : (8 : Int32) < nI i := nI_lt (a := 8) (b := i) (by omega) (by omega)
    exact ⟨-2, fun post hp => br_t h hp, fun post hp => br_t h hp⟩
  | succ d ih =>
    intro i s hi hs
    have h : ¬ (8 : Int32) < nI i := nI_nlt (a := 8) (b := i) (by omega) (by omega)
    have hd := ad_dd_lt p A s
    cases hb : (ad_dd p A s).testBit a
    · obtain ⟨r, hX, hY⟩ := ih (i + 1) (ad_dd p A s) (by omega) hd
      refine ⟨r, fun post hp => br_f h (ad_xdb G rfl hs (ad_xb rfl rfl hd (by omega) (fun _ => nm_r (nI_1 i) (hX post hp)) (fun z => ?_))), fun post hp => br_f h (ad_yde GY rfl hs (ad_yb rfl rfl hd (by omega) (fun z => ?_) (fun _ => nm_r (nI_1 i) (hY post hp))))⟩
      · rw [hb] at z; exact absurd z (by decide)
      · rw [hb] at z; exact absurd z (by decide)
    · refine ⟨nI i, fun post hp => br_f h (ad_xdb G rfl hs (ad_xb rfl rfl hd (by omega) (fun z => ?_) (fun _ => hp))), fun post hp => br_f h (ad_yde GY rfl hs (ad_yb rfl rfl hd (by omega) (fun _ => hp) (fun z => ?_)))⟩
      · rw [hb] at z; exact absurd z (by decide)
      · rw [hb] at z; exact absurd z (by decide)
theorem ad_weak (s d h : Nat) : (nI s &&& (nI d ^^^ (-1))) ||| (nI s &&& nI h) = nI s &&& (nI h ||| (nI d ^^^ (-1))) := by
  rw [ad_m1, nx_xor, nx_and, nx_and, ad_or, ad_or, nx_and]
  refine congrArg nI (Nat.eq_of_testBit_eq (fun i => ?_))
  simp only [Nat.testBit_or, Nat.testBit_and, Nat.testBit_xor]
  cases s.testBit i <;> cases h.testBit i <;> simp
/-! ones -/
theorem ad_pop1 : ∀ x, x < 256 → x ≠ 0 → ad_pop (x &&& (x - 1)) + 1 = ad_pop x := by decide +kernel
theorem ad_pop0 : ad_pop 0 = 0 := by decide
theorem ad_xon {post : Int32 → Prop} {y : Int32} {x : Nat} (hy : y = nI x) (hx : x < 256) (h : post (nI (ad_pop x))) : wpX_onesIn post ((nI p), kn, gc, xa, xb, hv, fm, wk, ot, rf, gr, ct) y := by
  subst hy
  show ∃ n4 : Nat, wX_onesIn_4 post (nI p) kn gc xa xb hv fm wk ot rf gr ct n4 0 (nI x)
  have key : ∀ m x c, x < 256 → ad_pop x = m → post (nI (c + m)) → wX_onesIn_4 post (nI p) kn gc xa xb hv fm wk ot rf gr ct (m + 1) (nI c) (nI x) := by
    intro m
    induction m with
    | zero =>
      intro x c hx hm h
      have e : x = 0 := by
        by_cases e : x = 0
        · exact e
        · have := ad_pop_pos hx e; omega
      subst e
      exact br_t nI_0 h
    | succ m ih =>
      intro x c hx hm h
      have e : x ≠ 0 := fun e => by rw [e, ad_pop0] at hm; omega
      have e1 := ad_pop1 x hx e
      have e2 : nI x &&& (nI x - 1) = nI (x &&& (x - 1)) := by
        rw [show nI x - 1 = nI (x - 1) from pk_sub (b := 1) (by omega), nx_and]
      refine br_f (nI_ne0 (by omega) (by omega)) (nm_r e2 (nm_r (nI_1 c) ?_))
      refine ih (x &&& (x - 1)) (c + 1) (ad_and_lt _ hx) (by omega) ?_
      rw [show c + 1 + m = c + (m + 1) by omega]; exact h
  exact ⟨_, key (ad_pop x) x 0 hx rfl (by rw [Nat.zero_add]; exact h)⟩
def ad_ef (A : Nat → Nat) (s : Nat) : Nat → Nat
  | 0 => 0
  | n + 1 => ad_ef A s n + (if s.testBit n = true then ad_pop (A n &&& s) else 0)
theorem ad_ef_t {A : Nat → Nat} {s n : Nat} (h : s.testBit n = true) : ad_ef A s (n + 1) = ad_ef A s n + ad_pop (A n &&& s) := by rw [ad_ef, if_pos h]
theorem ad_ef_f {A : Nat → Nat} {s n : Nat} (h : s.testBit n = false) : ad_ef A s (n + 1) = ad_ef A s n := by rw [ad_ef, if_neg (by rw [h]; decide), Nat.add_zero]
def ad_out (p : Nat) (A : Nat → Nat) (s : Nat) : Nat := ad_df (ad_df p s) (ad_hit A s)
theorem ad_x45 (G : ad_XG p A xa xb hv) {post : Int32 → Prop} {s : Nat} (hs : s < 256) (h : post (nI (ad_pop (ad_out p A s) + ad_ef A s 8))) : wX_effort_45 post (nI s) (nI (ad_out p A s)) (nI p) kn gc xa xb hv fm wk ot rf gr ct := by
  unfold wX_effort_45
  refine ad_xon rfl (ad_df_lt _ (ad_df_lt _ G.1.1)) ?_
  refine loop_0 (fun n i c => wX_effort_54 post (nI s) (nI p) kn gc xa xb hv fm wk ot rf gr ct n c (nI i)) (fun i c => c = nI (ad_pop (ad_out p A s) + ad_ef A s i)) 8 (nI (ad_pop (ad_out p A s))) rfl ?_ ?_
  · intro n c hc
    exact br_t ad_g8 (by rw [hc]; exact h)
  · intro n i c hi hc K
    refine br_f (ad_l8 hi) (ad_xb rfl rfl hs (by omega) (fun hb => ?_) (fun hb => ?_))
    · exact nm_r (nI_1 i) (K c (by rw [hc, ad_ef_f hb]))
    · refine ⟨ad_in hi (by decide), ad_xon (x := A i &&& s) (by rw [ad_cA G.2.1 hi (by decide), nx_and]) (ad_and_lt' _ hs) (nm_e (nm_r (nI_1 i) (K _ ?_)))⟩
      show c + nI (ad_pop (A i &&& s)) = _
      rw [hc, nI_add, ad_ef_t hb, Nat.add_assoc]
/-! as the reference counts -/
def ad_e2f (A : Nat → Nat) (s n : Nat) : Bool := s.testBit (n / 8) && s.testBit (n % 8) && (A (n / 8)).testBit (n % 8)
def ad_e2 (A : Nat → Nat) (s : Nat) : Nat → Nat
  | 0 => 0
  | n + 1 => ad_e2 A s n + (if ad_e2f A s n = true then 1 else 0)
theorem ad_e2_t {A : Nat → Nat} {s n : Nat} (h : ad_e2f A s n = true) : ad_e2 A s (n + 1) = ad_e2 A s n + 1 := by rw [ad_e2, if_pos h]
theorem ad_e2_f {A : Nat → Nat} {s n : Nat} (h : ad_e2f A s n = false) : ad_e2 A s (n + 1) = ad_e2 A s n := by rw [ad_e2, if_neg (by rw [h]; decide), Nat.add_zero]
theorem ad_e2in (A : Nat → Nat) (s a : Nat) : ∀ b, b ≤ 8 → ad_e2 A s (8 * a + b) = ad_e2 A s (8 * a) + (if s.testBit a = true then ad_pc (A a &&& s) b else 0) := by
  intro b
  induction b with
  | zero =>
    intro _
    rw [Nat.add_zero, ad_pc]
    split <;> rfl
  | succ b ih =>
    intro hb
    have i1 := ih (by omega)
    have e : ad_e2f A s (8 * a + b) = (s.testBit a && (A a &&& s).testBit b) := by
      unfold ad_e2f
      rw [show (8 * a + b) / 8 = a by omega, show (8 * a + b) % 8 = b by omega, Nat.testBit_and, Bool.and_assoc, Bool.and_comm (s.testBit b)]
    rw [show 8 * a + (b + 1) = 8 * a + b + 1 by omega]
    cases hsa : s.testBit a
    · rw [ad_e2_f (by rw [e, hsa]; rfl), i1, hsa]
      rfl
    · rw [hsa, if_pos rfl] at i1
      rw [if_pos rfl]
      rw [hsa, Bool.true_and] at e
      cases hx : (A a &&& s).testBit b
      · rw [ad_e2_f (by rw [e, hx]), i1, ad_pc_f hx]
      · rw [ad_e2_t (by rw [e, hx]), i1, ad_pc_t hx]; omega
theorem ad_e2ef (A : Nat → Nat) (s : Nat) : ∀ a, a ≤ 8 → ad_e2 A s (8 * a) = ad_ef A s a := by
  intro a
  induction a with
  | zero => intro _; rfl
  | succ a ih =>
    intro ha
    have h := ad_e2in A s a 8 (Nat.le_refl 8)
    rw [show 8 * (a + 1) = 8 * a + 8 by omega, h, ih (by omega)]
    cases hsa : s.testBit a
    · rw [ad_ef_f hsa]; rfl
    · rw [ad_ef_t hsa, if_pos rfl]; rfl
theorem ad_bit2 {s a b : Nat} (hs : s < 256) (ha : a < 8) (hb : b < 8) : (((nI s >>> (nI a &&& 31)) &&& (nI s >>> (nI b &&& 31))) &&& 1) = ad_bI (s.testBit a && s.testBit b) := by
  rw [Int32.and_assoc, ad_bit (by omega) (by omega : b < 31)]
  cases s.testBit b
  · rw [Bool.and_false]
    show _ &&& (0 : Int32) = 0
    exact Int32.and_zero
  · rw [Bool.and_true]
    exact ad_bit (by omega) (by omega)
theorem ad_y79 (GY : ad_YG p A ya) {post : Int32 → Prop} {s c0 : Nat} (hs : s < 256) (h : post (nI (c0 + ad_ef A s 8))) : ∃ n, wY_effort_79 post (nI s) (nI p) kn wt ya yf yw n (nI c0) 0 := by
  rw [← ad_e2ef A s 8 (Nat.le_refl 8)] at h
  refine loop_0 (fun n i c => wY_effort_79 post (nI s) (nI p) kn wt ya yf yw n c (nI i)) (fun i c => c = nI (c0 + ad_e2 A s i)) 64 (nI c0) rfl ?_ ?_
  · intro n c hc
    exact br_t ad_g64 (by rw [hc]; exact h)
  · intro n i c hi hc K
    have e1 : nI i / 8 = nI (i / 8) := pk_div (d := 8) (by omega) (by decide) (by decide)
    have e2 : nI i - nI i / 8 * 8 = nI (i % 8) := pk_rem (d := 8) (by omega) (by decide) (by decide)
    have ha : i / 8 < 8 := by omega
    have hb : i % 8 < 8 := by omega
    have n8 : ¬ (8 : Int32) = 0 := by decide
    have no : ad_e2f A s i = false → wY_effort_79 post (nI s) (nI p) kn wt ya yf yw n c (nI (i + 1)) := fun z => K c (by rw [hc, ad_e2_f z])
    refine br_f (ad_l64 hi) ⟨n8, n8, ?_⟩
    rw [e2, e1, ad_bit2 hs ha hb]
    cases hst : (s.testBit (i / 8) && s.testBit (i % 8))
    · refine br_f (by decide) (nm_r (nI_1 i) (no ?_))
      unfold ad_e2f; rw [hst]; rfl
    · refine br_t rfl ⟨n8, ad_in ha (by decide), n8, ad_yb (ad_cA GY.2 ha (by decide)) rfl (GY.1.2.1 _ ha) (by omega) (fun z => nm_e (nm_r (nI_1 i) (K _ ?_))) (fun z => nm_r (nI_1 i) (no ?_))⟩
      · show c + 1 = _
        rw [hc, nI_1, ad_e2_t (by unfold ad_e2f; rw [hst, z]; rfl), Nat.add_assoc]
      · unfold ad_e2f; rw [z, Bool.and_false]
theorem ad_y39 (GY : ad_YG p A ya) {post : Int32 → Prop} {s : Nat} (hs : s < 256) (h : post (nI (ad_pop (ad_out p A s) + ad_ef A s 8))) : ∃ n, wY_effort_39 post (nI s) (nI (ad_hit A s)) (nI p) kn wt ya yf yw n 0 0 := by
  refine loop_0 (fun n i c => wY_effort_39 post (nI s) (nI (ad_hit A s)) (nI p) kn wt ya yf yw n c (nI i)) (fun i c => c = nI (ad_pc (ad_out p A s) i)) 8 0 nI_0.symm ?_ ?_
  · intro n c hc
    subst hc
    exact br_t ad_g8 (ad_y79 GY hs h)
  · intro n i c hi hc K
    refine br_f (ad_l8 hi) (ad_yb (s := ad_out p A s) (by rw [ad_dfI, ad_dfI]; rfl) rfl (ad_df_lt _ (ad_df_lt _ GY.1.1)) (by omega) (fun hb => nm_e (nm_r (nI_1 i) (K _ ?_))) (fun hb => nm_r (nI_1 i) (K c ?_)))
    · show c + 1 = _
      rw [hc, nI_1, ad_pc_t hb]
    · rw [hc, ad_pc_f hb]
theorem ad_hit0 : ad_hit A 0 = 0 := by
  have h : ∀ n, ad_ht A 0 n = 0 := by
    intro n
    induction n with
    | zero => rfl
    | succ n ih => rw [ad_ht_f (Nat.zero_testBit n), ih]
  exact h 8
theorem ad_ef0 : ∀ n, ad_ef A 0 n = 0 := by
  intro n
  induction n with
  | zero => rfl
  | succ n ih => rw [ad_ef_f (Nat.zero_testBit n), ih]
theorem ad_out0 (hp : p < 256) : ad_out p A 0 = p := by unfold ad_out; rw [ad_hit0, ad_df_0 hp, ad_df_0 hp]
end RND
theorem i_vc_round {k : Nat} {u : SX} {v : SY} (I : i_Rel k u v) (hk : k + 4 ≤ 2048) (v1 : Int32) : wpX_round (fun r => wpY_round (fun r' => r' = r ∧ i_Rel (k + 4) u v) v v1) u v1 := by
  have I2 := i_up I
  obtain ⟨p, A, R⟩ := I
  obtain ⟨pr, kn, gc, xa, xb, hv, fm, wk, ot, rf, gr, ct⟩ := u
  obtain ⟨th, kn2, wt, ya, yf, yw⟩ := v
  obtain ⟨rfl, rfl, rfl, G, hy, hK⟩ := R
  have GY : ad_YG p A ya := ⟨G.1, hy⟩
  unfold wpX_round
  refine ad_xth G.1.1 (fun z => br_t rfl ?_) (fun a ha e => ad_bb rfl (fun z => ?_) (fun z => ?_))
  · unfold wpY_round
    exact ad_yth G.1.1 (fun _ => br_t rfl ⟨rfl, I2⟩) (fun a ha e => absurd e (z a ha))
  · unfold wpY_round
    refine ad_yth G.1.1 (fun y => absurd e (y a ha)) (fun b hb e2 => ?_)
    rw [e, nI_eq (by omega) (by omega)] at e2
    subst e2
    exact ad_bb rfl (fun _ => ⟨rfl, I2⟩) (fun y => by rw [z] at y; exact absurd y (by decide))
  · obtain ⟨r, hX, hY⟩ := ad_rnd (kn := kn2) (gc := gc) (fm := fm) (wk := wk) (ot := ot) (rf := rf) (gr := gr) (ct := ct) (wt := wt) (yf := yf) (yw := yw) G GY ha 8 1 0 (by omega) (by decide)
    subst e
    refine ⟨9, hX _ ?_⟩
    unfold wpY_round
    refine ad_yth G.1.1 (fun y => absurd rfl (y a ha)) (fun b hb e2 => ?_)
    rw [nI_eq (by omega) (by omega)] at e2
    subst e2
    exact ad_bb rfl (fun y => by rw [z] at y; exact absurd y (by decide)) (fun _ => ⟨9, hY _ ⟨rfl, I2⟩⟩)
theorem i_vc_weak {k : Nat} {u : SX} {v : SY} (I : i_Rel k u v) (hk : k + 4 ≤ 2048) (v1 : Int32) : wpX_weak (fun r => wpY_weak (fun r' => r' = r ∧ i_Rel (k + 4) u v) v v1) u v1 := by
  have I2 := i_up I
  obtain ⟨p, A, R⟩ := I
  obtain ⟨pr, kn, gc, xa, xb, hv, fm, wk, ot, rf, gr, ct⟩ := u
  obtain ⟨th, kn2, wt, ya, yf, yw⟩ := v
  obtain ⟨rfl, rfl, rfl, G, hy, hK⟩ := R
  have GY : ad_YG p A ya := ⟨G.1, hy⟩
  unfold wpX_weak
  refine ad_xset G.1.1 (fun z => ?_) (fun s hs e hl => ?_)
  · unfold wpY_weak
    exact ad_yis G.1.1 (fun _ => br_t rfl ⟨rfl, I2⟩) (fun s hs e hl => absurd e (z s hs hl))
  · subst e
    refine ad_xdb G rfl hs (ad_xaf G rfl hs ?_)
    unfold wpY_weak
    refine ad_yis G.1.1 (fun z => absurd rfl (z s hs hl)) (fun _ _ _ _ => br_f (by decide) ?_)
    exact ad_yde GY rfl hs (ad_yhi GY rfl hs ⟨(ad_weak _ _ _).symm, I2⟩)
theorem i_vc_effort {k : Nat} {u : SX} {v : SY} (I : i_Rel k u v) (hk : k + 4 ≤ 2048) (v1 : Int32) : wpX_effort (fun r => wpY_effort (fun r' => r' = r ∧ i_Rel (k + 4) u v) v v1) u v1 := by
  have I2 := i_up I
  obtain ⟨p, A, R⟩ := I
  obtain ⟨pr, kn, gc, xa, xb, hv, fm, wk, ot, rf, gr, ct⟩ := u
  obtain ⟨th, kn2, wt, ya, yf, yw⟩ := v
  obtain ⟨rfl, rfl, rfl, G, hy, hK⟩ := R
  have GY : ad_YG p A ya := ⟨G.1, hy⟩
  have hp := G.1.1
  unfold wpX_effort
  refine ad_xset hp (fun z => ?_) (fun s hs e hl => ?_)
  · unfold wpY_effort
    exact ad_yis hp (fun _ => br_t rfl ⟨rfl, I2⟩) (fun s hs e hl => absurd e (z s hs hl))
  · subst e
    refine ad_xaf G rfl hs (nm_r (e' := nI (ad_out p A s)) (by rw [ad_dfI, ad_dfI]; rfl) ?_)
    have ho : ad_out p A s < 256 := ad_df_lt _ (ad_df_lt _ hp)
    refine ad_e0 rfl hs (fun s0 => ?_) (fun s0 => ?_)
    · subst s0
      rw [ad_out0 hp] at ho ⊢
      refine ad_e0 rfl hp (fun p0 => ?_) (fun p0 => ?_)
      · have h45 := fun post h => ad_x45 (post := post) (s := 0) (kn := kn2) (gc := gc) (fm := fm) (wk := wk) (ot := ot) (rf := rf) (gr := gr) (ct := ct) G (by decide) h
        rw [ad_out0 hp] at h45
        refine h45 _ ?_
        rw [ad_ef0, p0, ad_pop0]
        unfold wpY_effort
        refine ad_yis (by decide) (fun z => absurd rfl (z 0 (by decide) (ad_le_0 _))) (fun _ _ _ _ => br_f (by decide) (br_t nI_0 (br_t nI_0 ⟨nI_0.symm, ?_⟩)))
        rw [← p0]; exact I2
      · unfold wpY_effort
        exact ad_yis hp (fun z => absurd rfl (z 0 (by decide) (ad_le_0 _))) (fun _ _ _ _ => br_f (by decide) (br_t nI_0 (br_f (nI_ne0 (by omega) (by omega)) ⟨rfl, I2⟩)))
    · refine ad_x45 G hs ?_
      unfold wpY_effort
      refine ad_yis hp (fun z => absurd rfl (z s hs hl)) (fun _ _ _ _ => br_f (by decide) (br_f (nI_ne0 (by omega) (by omega)) ?_))
      exact ad_yhi GY rfl hs (ad_y39 GY hs ⟨rfl, I2⟩)
end
