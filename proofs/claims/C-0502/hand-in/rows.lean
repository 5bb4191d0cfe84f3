section
theorem pk_us {f : Nat → Int32} {k : Nat} {x : Int32} : upd f k x k = x := if_pos rfl
theorem pk_un {f : Nat → Int32} {k j : Nat} {x : Int32} (h : j ≠ k) : upd f k x j = f j := if_neg h
theorem pk_uLs {f : Nat → Int64} {k : Nat} {x : Int64} : vp_updL f k x k = x := if_pos rfl
theorem pk_uLn {f : Nat → Int64} {k j : Nat} {x : Int64} (h : j ≠ k) : vp_updL f k x j = f j := if_neg h
theorem pk_sub {a b : Nat} (h : b ≤ a) : nI a - nI b = nI (a - b) := by
  obtain ⟨c, rfl⟩ : ∃ c, a = c + b := ⟨a - b, by omega⟩
  rw [← nI_add, Int32.add_sub_cancel, Nat.add_sub_cancel]
theorem pk_m1 (n : Nat) : nI (n + 1) + (-1) = nI n := by
  rw [← nI_1, Int32.add_assoc, show (1 : Int32) + (-1) = 0 from rfl, Int32.add_zero]
theorem pk_mul (a b : Nat) : nI a * nI b = nI (a * b) := (Int32.ofNat_mul a b).symm
theorem pk_div {a d : Nat} (ha : a < 2 ^ 31) (h0 : 0 < d) (hd : d < 2 ^ 31) : nI a / nI d = nI (a / d) := by
  apply Int32.toInt_inj.mp
  rw [lg_idiv_nonneg (by rw [nI_toInt ha]; omega) (by rw [nI_toInt hd]; omega), nI_toInt ha, nI_toInt hd, nI_toInt (Nat.lt_of_le_of_lt (Nat.div_le_self a d) ha)]
  first | rfl | exact (Int.natCast_ediv _ _).symm
theorem pk_rem {a d : Nat} (ha : a < 2 ^ 31) (h0 : 0 < d) (hd : d < 2 ^ 31) : nI a - nI a / nI d * nI d = nI (a % d) := by
  rw [pk_div ha h0 hd, pk_mul, pk_sub (Nat.div_mul_le_self a d)]
  exact congrArg nI (by have := Nat.div_add_mod' a d; omega)
theorem pk_sub_toInt {a b : Nat} (ha : a < 2 ^ 30) (hb : b < 2 ^ 30) : (nI a - nI b).toInt = (a : Int) - b := by
  rw [Int32.toInt_sub, nI_toInt (by omega), nI_toInt (by omega)]
  exact Int.bmod_eq_of_le (by omega) (by omega)
theorem pk_sneg {a b : Nat} (hb : b < 2 ^ 30) (h : a < b) : nI a - nI b < 0 := by
  rw [Int32.lt_iff_toInt_lt, pk_sub_toInt (by omega) hb, show (0 : Int32).toInt = 0 from by decide]
  omega
theorem pk_ix (x : Int32) {n : Nat} (hn : n < 2 ^ 31) : x < 0 ∨ nI n ≤ x ∨ ∃ j : Nat, j < n ∧ x = nI j := by
  by_cases h : x < 0
  · exact Or.inl h
  · obtain ⟨j, hj, rfl⟩ := nI_of h
    by_cases h2 : j < n
    · exact Or.inr (Or.inr ⟨j, h2, rfl⟩)
    · exact Or.inr (Or.inl (nI_le (by omega) hj))
theorem pk_le {x y : Int32} {A B : Prop} (a b : Nat) (f : a ≤ b → A) (g : b < a → B) (hx : x = nI a := by rfl) (hy : y = nI b := by rfl) (ha : a < 2 ^ 31 := by omega) (hb : b < 2 ^ 31 := by omega) : (x ≤ y → A) ∧ (¬ x ≤ y → B) := by
  subst hx hy
  rw [nI_leI ha hb]
  exact ⟨f, fun z => g (by omega)⟩
theorem pk_lt {x y : Int32} {A B : Prop} (a b : Nat) (f : a < b → A) (g : b ≤ a → B) (hx : x = nI a := by rfl) (hy : y = nI b := by rfl) (ha : a < 2 ^ 31 := by omega) (hb : b < 2 ^ 31 := by omega) : (x < y → A) ∧ (¬ x < y → B) := by
  subst hx hy
  rw [nI_ltI ha hb]
  exact ⟨f, fun z => g (by omega)⟩
theorem pk_eq {x y : Int32} {A B : Prop} (a b : Nat) (f : a = b → A) (g : a ≠ b → B) (hx : x = nI a := by rfl) (hy : y = nI b := by rfl) (ha : a < 2 ^ 31 := by omega) (hb : b < 2 ^ 31 := by omega) : (x = y → A) ∧ (¬ x = y → B) := by
  subst hx hy
  rw [nI_eq ha hb]
  exact ⟨f, g⟩
theorem pk_in {x : Int32} (n N : Nat) (h : n < N) (hx : x = nI n := by rfl) (hN : N < 2 ^ 31 := by omega) : vp_in x N := by
  subst hx
  exact vp_in_nI h hN
theorem pk_cl {x : Int32} (n : Nat) (hx : x = nI n := by rfl) (h : n < 2 ^ 31 := by omega) : x.toNatClampNeg = n := by
  subst hx
  exact nI_clamp h
theorem pk_tn {n : Nat} (h : n < 2 ^ 32) : (nI n).toBitVec.toNat = n := Nat.mod_eq_of_lt h
theorem pk_and (x : Int32) {m : Int32} (k : Nat) (hm : m.toBitVec.toNat = 2 ^ k - 1) : x &&& m = nI (x.toBitVec.toNat % 2 ^ k) := by
  apply Int32.toBitVec_inj.mp
  apply BitVec.eq_of_toNat_eq
  rw [Int32.toBitVec_and, BitVec.toNat_and, hm, Nat.and_two_pow_sub_one_eq_mod]
  show _ = (BitVec.ofNat 32 _).toNat
  rw [BitVec.toNat_ofNat]
  exact (Nat.mod_eq_of_lt (Nat.lt_of_le_of_lt (Nat.mod_le _ _) x.toBitVec.isLt)).symm
theorem pk_andN {n : Nat} (h : n < 2 ^ 32) {m : Int32} (k : Nat) (hm : m.toBitVec.toNat = 2 ^ k - 1) : nI n &&& m = nI (n % 2 ^ k) := by
  rw [pk_and _ k hm, pk_tn h]
theorem pk_andE (x : Int32) {m : Int32} (k : Nat) (hm : m.toBitVec.toNat = 2 ^ k - 1) : ∃ j : Nat, j < 2 ^ k ∧ x &&& m = nI j := ⟨_, Nat.mod_lt _ (Nat.two_pow_pos k), pk_and x k hm⟩
theorem pk_andIn (x : Int32) {m : Int32} (k : Nat) (hm : m.toBitVec.toNat = 2 ^ k - 1) (hk : k ≤ 30) : vp_in (x &&& m) (2 ^ k) := by
  obtain ⟨j, hj, e⟩ := pk_andE x k hm
  rw [e]
  exact vp_in_nI hj (Nat.lt_of_le_of_lt (Nat.pow_le_pow_right (by decide) hk) (by decide))
theorem pk_shl (a s : Int32) (k : Nat) (hs : (s.toBitVec.smod 32).toNat = k) : (a <<< s).toBitVec.toNat = a.toBitVec.toNat * 2 ^ k % 2 ^ 32 := by
  show (a.toBitVec <<< (s.toBitVec.smod 32).toNat).toNat = _
  rw [hs, BitVec.toNat_shiftLeft, Nat.shiftLeft_eq]
theorem pk_shlN {n : Nat} (s : Int32) (k : Nat) (hs : (s.toBitVec.smod 32).toNat = k) (h : n * 2 ^ k < 2 ^ 32) : nI n <<< s = nI (n * 2 ^ k) := by
  apply Int32.toBitVec_inj.mp
  apply BitVec.eq_of_toNat_eq
  have hn : n < 2 ^ 32 := Nat.lt_of_le_of_lt (Nat.le_mul_of_pos_right n (Nat.two_pow_pos k)) h
  rw [pk_shl _ _ k hs, pk_tn hn, pk_tn h, Nat.mod_eq_of_lt h]
theorem pk_shr (a s : Int32) (k : Nat) (hs : (s.toBitVec.smod 32).toNat = k) : (a >>> s).toInt = a.toInt >>> k := by
  show (a.toBitVec.sshiftRight (s.toBitVec.smod 32).toNat).toInt = _
  rw [hs, BitVec.toInt_sshiftRight]
  rfl
theorem pk_shrN {n : Nat} (h : n < 2 ^ 31) (s : Int32) (k : Nat) (hs : (s.toBitVec.smod 32).toNat = k) : nI n >>> s = nI (n / 2 ^ k) := by
  apply Int32.toInt_inj.mp
  have h2 : n / 2 ^ k ≤ n := Nat.div_le_self _ _
  rw [pk_shr _ _ k hs, nI_toInt h, nI_toInt (by omega), Int.shiftRight_eq_div_pow]
  rfl
theorem pk_ushr (x s : Int32) (k : Nat) (hs : ((s.toUInt32 &&& Int32.toUInt32 31).toBitVec % 32).toNat = k) : (x.toUInt32 >>> (s.toUInt32 &&& Int32.toUInt32 31)).toInt32.toBitVec.toNat = x.toBitVec.toNat / 2 ^ k := by
  have e : (x.toUInt32 >>> (s.toUInt32 &&& Int32.toUInt32 31)).toInt32.toBitVec = x.toBitVec >>> k := by
    rw [← hs]
    exact UInt32.toBitVec_shiftRight _ _
  rw [e, BitVec.toNat_ushiftRight, Nat.shiftRight_eq_div_pow]
theorem pk_ushrN {n : Nat} (hn : n < 2 ^ 32) (s : Int32) (k : Nat) (hs : ((s.toUInt32 &&& Int32.toUInt32 31).toBitVec % 32).toNat = k) : ((nI n).toUInt32 >>> (s.toUInt32 &&& Int32.toUInt32 31)).toInt32 = nI (n / 2 ^ k) := by
  apply Int32.toBitVec_inj.mp
  apply BitVec.eq_of_toNat_eq
  rw [pk_ushr _ s k hs, pk_tn hn, pk_tn (Nat.lt_of_le_of_lt (Nat.div_le_self _ _) hn)]
theorem pk_nb (z : Int32) : narrow .byte (.int z.toInt8.toInt32) = .int z.toInt8.toInt32 := congrArg Value.int (by simp)
theorem pk_vb (z : Int32) : vp_nar .byte z.toInt8.toInt32 = z.toInt8.toInt32 := by rw [vp_nar_byte]; simp
def bt (x : Int32) (i : Nat) : Bool := x.toBitVec.getLsbD i
theorem b_ext {x y : Int32} (h : ∀ i, i < 32 → bt x i = bt y i) : x = y := Int32.toBitVec_inj.mp (BitVec.eq_of_getLsbD_eq (fun i hi => h i hi))
theorem b_and (x y : Int32) (i : Nat) : bt (x &&& y) i = (bt x i && bt y i) := by unfold bt; rw [Int32.toBitVec_and, BitVec.getLsbD_and]
theorem s_l : ∀ n, n < 32 → ((nI n &&& 31).toBitVec.smod 32).toNat = n := by decide +kernel
theorem b_sshr (n : Nat) (hn : n < 32) (x : Int32) {i : Nat} (hi : i < 32) : bt (x >>> (nI n &&& 31)) i = if n + i < 32 then bt x (n + i) else bt x 31 := by
  unfold bt
  rw [Int32.toBitVec_shiftRight]
  show (x.toBitVec.sshiftRight ((nI n &&& 31).toBitVec.smod 32).toNat).getLsbD i = _
  rw [s_l n hn, BitVec.getLsbD_sshiftRight, BitVec.msb_eq_getLsbD_last]
  simp [hi]
end
section
section
/-! arithmetic: one pure function for both sides -/
def gu_cin (z : Int32) : Int32 := ((z.toUInt32 >>> ((2 : Int32).toUInt32 &&& Int32.toUInt32 31)).toInt32) &&& 1
def gu_cmp (k x y z : Int32) : Int32 := if k = 1 then x + y else if k = 2 then x - y else if k = 3 then x &&& y else if k = 4 then x ^^^ y else if k = 5 then (x + y) + gu_cin z else if k = 6 then x * y else if y = 0 then 0 else x / y
def gu_z (r : Int32) : Int32 := if r = 0 then 1 else 0
def gu_n (r : Int32) : Int32 := if 0 ≤ r then 0 else 1
def gu_sg (r : Int32) : Int32 := (if r = 0 then 1 else 0) + (if 0 ≤ r then 0 else 2)
def gu_cs (x y c : Int32) : Int32 := if ((x.toInt64 &&& 4294967295) + (y.toInt64 &&& 4294967295)) + c.toInt64 ≤ 4294967295 then 0 else 1
def gu_vs (x y c r : Int32) : Int32 := if (x.toInt64 + y.toInt64) + c.toInt64 = r.toInt64 then 0 else 1
def gu_cd (x y : Int32) : Int32 := if (y.toInt64 &&& 4294967295) ≤ (x.toInt64 &&& 4294967295) then 0 else 1
def gu_vd (x y r : Int32) : Int32 := if x.toInt64 - y.toInt64 = r.toInt64 then 0 else 1
def gu_sf (b x y c r : Int32) : Int32 := (b + (if ((x.toInt64 &&& 4294967295) + (y.toInt64 &&& 4294967295)) + c.toInt64 ≤ 4294967295 then 0 else 4)) + (if (x.toInt64 + y.toInt64) + c.toInt64 = r.toInt64 then 0 else 8)
def gu_df (b x y r : Int32) : Int32 := (b + (if (y.toInt64 &&& 4294967295) ≤ (x.toInt64 &&& 4294967295) then 0 else 4)) + (if x.toInt64 - y.toInt64 = r.toInt64 then 0 else 8)
def gu_fb (b k x y z r : Int32) : Int32 := if k = 2 then gu_df b x y r else if k = 1 then gu_sf b x y 0 r else if k = 5 then gu_sf b x y (gu_cin z) r else b
def gu_flg (k x y z : Int32) : Int32 := gu_fb (gu_sg (gu_cmp k x y z)) k x y z (gu_cmp k x y z)
def gu_bt (z n c v F : Int32) : Prop := (z = 0 ∨ z = 1) ∧ (n = 0 ∨ n = 1) ∧ (c = 0 ∨ c = 1) ∧ (v = 0 ∨ v = 1) ∧ F = ((z + (2 * n)) + (4 * c)) + (8 * v)
theorem gu_sf_bt (x y c r : Int32) : gu_bt (gu_z r) (gu_n r) (gu_cs x y c) (gu_vs x y c r) (gu_sf (gu_sg r) x y c r) := by
  unfold gu_bt gu_z gu_n gu_cs gu_vs gu_sf gu_sg
  split <;> split <;> split <;> split <;> decide
theorem gu_df_bt (x y r : Int32) : gu_bt (gu_z r) (gu_n r) (gu_cd x y) (gu_vd x y r) (gu_df (gu_sg r) x y r) := by
  unfold gu_bt gu_z gu_n gu_cd gu_vd gu_df gu_sg
  split <;> split <;> split <;> split <;> decide
theorem gu_sg_bt (r : Int32) : gu_bt (gu_z r) (gu_n r) 0 0 (gu_sg r) := by
  unfold gu_bt gu_z gu_n gu_sg
  split <;> split <;> decide
theorem gu_bt_cin {z n c v F : Int32} (h : gu_bt z n c v F) : gu_cin F = c := by
  obtain ⟨h1, h2, h3, h4, rfl⟩ := h
  rcases h1 with rfl | rfl <;> rcases h2 with rfl | rfl <;> rcases h3 with rfl | rfl <;> rcases h4 with rfl | rfl <;> decide
theorem gu_bt_1 {z n c v F : Int32} (h : gu_bt z n c v F) : F &&& 1 = z := by
  obtain ⟨h1, h2, h3, h4, rfl⟩ := h
  rcases h1 with rfl | rfl <;> rcases h2 with rfl | rfl <;> rcases h3 with rfl | rfl <;> rcases h4 with rfl | rfl <;> decide
theorem gu_bt_2 {z n c v F : Int32} (h : gu_bt z n c v F) : F &&& 2 = 2 * n := by
  obtain ⟨h1, h2, h3, h4, rfl⟩ := h
  rcases h1 with rfl | rfl <;> rcases h2 with rfl | rfl <;> rcases h3 with rfl | rfl <;> rcases h4 with rfl | rfl <;> decide
theorem gu_bt_4 {z n c v F : Int32} (h : gu_bt z n c v F) : F &&& 4 = 4 * c := by
  obtain ⟨h1, h2, h3, h4, rfl⟩ := h
  rcases h1 with rfl | rfl <;> rcases h2 with rfl | rfl <;> rcases h3 with rfl | rfl <;> rcases h4 with rfl | rfl <;> decide
theorem gu_bt_8 {z n c v F : Int32} (h : gu_bt z n c v F) : F &&& 8 = 8 * v := by
  obtain ⟨h1, h2, h3, h4, rfl⟩ := h
  rcases h1 with rfl | rfl <;> rcases h2 with rfl | rfl <;> rcases h3 with rfl | rfl <;> rcases h4 with rfl | rfl <;> decide
theorem gu_m15 : ∀ i, i < 32 → bt 15 i = decide (i < 4) := by decide +kernel
theorem gu_m1 : ∀ i, i < 32 → bt 1 i = decide (i < 1) := by decide +kernel
theorem gu_low {b X : Int32} (h : ∀ i, i < 32 → bt X i = (if i = 0 then bt b 0 else if i = 1 then bt b 1 else if i = 2 then bt b 2 else if i = 3 then bt b 3 else false)) : b &&& 15 = X := by
  apply b_ext
  intro i hi
  rw [b_and, h i hi, gu_m15 i hi]
  by_cases h0 : i = 0
  · subst h0; simp
  by_cases h1 : i = 1
  · subst h1; simp
  by_cases h2 : i = 2
  · subst h2; simp
  by_cases h3 : i = 3
  · subst h3; simp
  rw [if_neg h0, if_neg h1, if_neg h2, if_neg h3, decide_eq_false (by omega), Bool.and_false]
theorem gu_bit (b : Int32) (k : Nat) (hk : k < 32) : (b >>> (nI k &&& 31)) &&& 1 = if bt b k then 1 else 0 := by
  apply b_ext
  intro i hi
  rw [b_and, b_sshr k hk b hi, gu_m1 i hi]
  by_cases h0 : i = 0
  · subst h0
    rw [if_pos (by omega)]
    cases bt b k <;> decide
  · rw [decide_eq_false (by omega), Bool.and_false]
    cases bt b k
    · exact ((by decide +kernel : ∀ i, i < 32 → false = bt 0 i) i hi)
    · rw [if_pos rfl, gu_m1 i hi, decide_eq_false (by omega)]
theorem gu_bit0 (b : Int32) : b &&& 1 = if bt b 0 then 1 else 0 := by
  apply b_ext
  intro i hi
  rw [b_and, gu_m1 i hi]
  by_cases h0 : i = 0
  · subst h0
    cases bt b 0 <;> decide
  · rw [decide_eq_false (by omega), Bool.and_false]
    cases bt b 0
    · exact ((by decide +kernel : ∀ i, i < 32 → false = bt 0 i) i hi)
    · rw [if_pos rfl, gu_m1 i hi, decide_eq_false (by omega)]
theorem gu_lowb : ∀ (b0 b1 b2 b3 : Bool) (i : Nat), i < 32 → bt (((if b0 then 1 else 0) + (2 * (if b1 then 1 else 0))) + (4 * (if b2 then 1 else 0)) + (8 * (if b3 then 1 else 0))) i = (if i = 0 then b0 else if i = 1 then b1 else if i = 2 then b2 else if i = 3 then b3 else false) := by decide +kernel
theorem gu_bt_set (b : Int32) : gu_bt (b &&& 1) ((b >>> ((1 : Int32) &&& 31)) &&& 1) ((b >>> ((2 : Int32) &&& 31)) &&& 1) ((b >>> ((3 : Int32) &&& 31)) &&& 1) (b &&& 15) := by
  have e1 : (b >>> ((1 : Int32) &&& 31)) &&& 1 = if bt b 1 then 1 else 0 := gu_bit b 1 (by omega)
  have e2 : (b >>> ((2 : Int32) &&& 31)) &&& 1 = if bt b 2 then 1 else 0 := gu_bit b 2 (by omega)
  have e3 : (b >>> ((3 : Int32) &&& 31)) &&& 1 = if bt b 3 then 1 else 0 := gu_bit b 3 (by omega)
  have o : ∀ c : Bool, (if c then (1 : Int32) else 0) = 0 ∨ (if c then (1 : Int32) else 0) = 1 := by decide
  rw [e1, e2, e3, gu_bit0 b]
  exact ⟨o _, o _, o _, o _, gu_low (gu_lowb _ _ _ _)⟩
theorem gu_flg_z {k x y z z' : Int32} (h : k ≠ 5) : gu_flg k x y z = gu_flg k x y z' := by
  unfold gu_flg gu_fb gu_cmp
  rw [if_neg h, if_neg h, if_neg h, if_neg h]
theorem gu_cmp_z {k x y z z' : Int32} (h : k ≠ 5) : gu_cmp k x y z = gu_cmp k x y z' := by
  unfold gu_cmp
  rw [if_neg h, if_neg h]
theorem gu_quo {x y : Int32} (h : ¬ y = 0) : ¬ y.toInt64 = 0 ∧ (x.toInt64 / y.toInt64).toInt32 = x / y := by
  have hx1 := x.le_toInt
  have hx2 := x.toInt_lt
  have hy1 := y.le_toInt
  have hy2 := y.toInt_lt
  have y0 : y.toInt ≠ 0 := fun e => h (Int32.toInt_inj.mp (by rw [e]; decide))
  constructor
  · intro e
    have e2 := congrArg Int64.toInt e
    rw [Int32.toInt_toInt64] at e2
    exact y0 (e2.trans (by decide))
  · apply Int32.toInt_inj.mp
    rw [Int64.toInt_toInt32, Int64.toInt_div, Int32.toInt_div, Int32.toInt_toInt64, Int32.toInt_toInt64]
    have hq : (x.toInt.tdiv y.toInt).natAbs ≤ x.toInt.natAbs := by
      rw [Int.natAbs_tdiv]
      exact Nat.div_le_self _ _
    rw [Int.bmod_eq_of_le (n := x.toInt.tdiv y.toInt) (m := 2 ^ 64) (by omega) (by omega)]
theorem gu_lt32 (x : Int64) : x < 4294967296 ↔ x ≤ 4294967295 := by
  rw [Int64.lt_iff_toInt_lt, Int64.le_iff_toInt_le]
  have h1 : (4294967296 : Int64).toInt = 4294967296 := by decide
  have h2 : (4294967295 : Int64).toInt = 4294967295 := by decide
  rw [h1, h2]
  omega
/-! the component's arithmetic -/
theorem xw_cmp {post : Int32 → Prop} {k x y z : Int32} (h : post (gu_cmp k x y z)) : wpX_compute post k x y z := by
  unfold gu_cmp at h
  unfold wpX_compute
  refine ⟨fun e => by rw [if_pos e] at h; exact h, fun n1 => ?_⟩
  rw [if_neg n1] at h
  refine ⟨fun e => by rw [if_pos e] at h; exact h, fun n2 => ?_⟩
  rw [if_neg n2] at h
  refine ⟨fun e => by rw [if_pos e] at h; exact h, fun n3 => ?_⟩
  rw [if_neg n3] at h
  refine ⟨fun e => by rw [if_pos e] at h; exact h, fun n4 => ?_⟩
  rw [if_neg n4] at h
  refine ⟨fun e => by rw [if_pos e] at h; exact h, fun n5 => ?_⟩
  rw [if_neg n5] at h
  refine ⟨fun e => by rw [if_pos e] at h; exact h, fun n6 => ?_⟩
  rw [if_neg n6] at h
  refine ⟨fun e => by rw [if_pos e] at h; exact h, fun n7 => ⟨n7, ?_⟩⟩
  rw [if_neg n7] at h
  exact h
theorem xw_f68 {post : Int32 → Prop} {x y r z0 z1 : Int32} (h : post ((z1 + z0) + (if x.toInt64 - y.toInt64 = r.toInt64 then 0 else 8))) : wX_flagsOf_68 post x y r z0 z1 :=
  nm_e (br_c (fun p => nm_e (by rw [if_pos p] at h; exact h)) (fun p => nm_e (by rw [if_neg p] at h; exact h)))
theorem xw_f146 {post : Int32 → Prop} {x y r c z0 z1 : Int32} (h : post ((z1 + z0) + (if (x.toInt64 + y.toInt64) + c.toInt64 = r.toInt64 then 0 else 8))) : wX_flagsOf_146 post x y r c z0 z1 :=
  nm_e (br_c (fun p => nm_e (by rw [if_pos p] at h; exact h)) (fun p => nm_e (by rw [if_neg p] at h; exact h)))
theorem xw_f121 {post : Int32 → Prop} {x y r b c : Int32} (h : post (gu_sf b x y c r)) : wX_flagsOf_121 post x y r b (x.toInt64 &&& 4294967295) (y.toInt64 &&& 4294967295) c := by
  unfold gu_sf at h
  exact br_c (fun p => by rw [if_pos p] at h; exact xw_f146 h) (fun p => by rw [if_neg p] at h; exact xw_f146 h)
theorem xw_f29 {post : Int32 → Prop} {k x y z r b0 b1 : Int32} (h : post (gu_fb (b1 + b0) k x y z r)) : wX_flagsOf_29 post k x y z r b0 b1 := by
  unfold gu_fb at h
  refine nm_e (nm_e (nm_e (br_c (fun e2 => ?_) (fun n2 => br_c (fun e1 => ?_) (fun n1 => br_c (fun e5 => ?_) (fun n5 => ?_))))))
  · rw [if_pos e2] at h
    unfold gu_df at h
    exact br_c (fun p => by rw [if_pos p] at h; exact xw_f68 h) (fun p => by rw [if_neg p] at h; exact xw_f68 h)
  · rw [if_neg n2, if_pos e1] at h
    have n5 : ¬ k = 5 := by rw [e1]; decide
    exact br_f n5 (xw_f121 h)
  · rw [if_neg n2, if_neg n1, if_pos e5] at h
    exact br_t e5 (xw_f121 h)
  · rw [if_neg n2, if_neg n1, if_neg n5] at h
    exact h
theorem xw_f19 {post : Int32 → Prop} {k x y z r b : Int32} (h : post (gu_fb (b + (if 0 ≤ r then 0 else 2)) k x y z r)) : wX_flagsOf_19 post k x y z r b :=
  br_c (fun p => by rw [if_pos p] at h; exact xw_f29 h) (fun p => by rw [if_neg p] at h; exact xw_f29 h)
theorem xw_flg {post : Int32 → Prop} {k x y z : Int32} (h : post (gu_flg k x y z)) : wpX_flagsOf post k x y z := by
  unfold gu_flg gu_sg at h
  refine xw_cmp ?_
  exact br_c (fun p => by rw [if_pos p] at h; exact xw_f19 h) (fun p => by rw [if_neg p] at h; exact xw_f19 h)
end
end
section
section
/-! the guest's machine, pure -/
def gu_ld (pg : Int32) (rt : Nat → Int32) (ad : Int32) : Int32 := if ad < 0 then 3 else if 8 * pg ≤ ad then 3 else if rt (ad >>> ((3 : Int32) &&& 31)).toNatClampNeg = 0 then 4 else 0
def gu_sv (pg : Int32) (rt : Nat → Int32) (ad : Int32) : Int32 := if ad < 0 then 3 else if 8 * pg ≤ ad then 3 else if 2 ≤ rt (ad >>> ((3 : Int32) &&& 31)).toNatClampNeg then 0 else 5
def gu_flt (pg : Int32) (rt : Nat → Int32) (o b c : Int32) (R : Nat → Int32) : Int32 := if o = 7 then (if R (c &&& 7).toNatClampNeg = 0 then 6 else 0) else if o = 9 then gu_ld pg rt (R b.toNatClampNeg + c) else if o = 10 then gu_sv pg rt (R b.toNatClampNeg + c) else 0
def gu_R (o a b c : Int32) (R : Nat → Int32) (F : Int32) (M : Nat → Int32) : Nat → Int32 := if o = 0 then upd R a.toNatClampNeg c else if o = 8 then upd R a.toNatClampNeg (R b.toNatClampNeg <<< ((c &&& 31) &&& 31)) else if o = 9 then upd R a.toNatClampNeg (M (R b.toNatClampNeg + c).toNatClampNeg) else if o = 10 then R else if o = 11 then R else upd R a.toNatClampNeg (gu_cmp o (R b.toNatClampNeg) (R (c &&& 7).toNatClampNeg) F)
def gu_F (o b c : Int32) (R : Nat → Int32) (F : Int32) : Int32 := if o < 1 then F else if 5 < o then F else gu_flg o (R b.toNatClampNeg) (R (c &&& 7).toNatClampNeg) F
def gu_M (o a b c : Int32) (R : Nat → Int32) (M : Nat → Int32) : Nat → Int32 := if o = 10 then upd M (R b.toNatClampNeg + c).toNatClampNeg (R a.toNatClampNeg) else M
def gu_hold (z n c v a : Int32) : Int32 := if a = 0 then 1 else if a = 1 then (if z = 1 then 1 else 0) else if a = 2 then (if z = 0 then 1 else 0) else if a = 3 then (if n = 1 then 1 else 0) else if a = 4 then (if n = 0 then 1 else 0) else if a = 5 then (if c = 1 then 1 else 0) else if a = 6 then (if v = 1 then 1 else 0) else (if n = v then 0 else 1)
def gu_pc (o h c pc : Int32) : Int32 := if o = 11 then (if h = 0 then pc + 1 else c) else pc + 1
abbrev gu_G : Type := (Nat → Int32) × Int32 × (Nat → Int32)
def gu_nx (o a b c : Int32) (g : gu_G) : gu_G := (gu_R o a b c g.1 g.2.1 g.2.2, gu_F o b c g.1 g.2.1, gu_M o a b c g.1 g.2.2)
def gu_seq (O A B C : Nat → Int32) (st : Nat) (g : gu_G) : Nat → gu_G
  | 0 => g
  | k + 1 => gu_nx (O (st + k)) (A (st + k)) (B (st + k)) (C (st + k)) (gu_seq O A B C st g k)
def gu_pg (p : Int32) : Prop := ∃ n : Nat, 1 ≤ n ∧ n ≤ 4 ∧ p = nI n
theorem gu_a7 (x : Int32) : vp_in (x &&& 7) 8 := pk_andIn x 3 (by decide) (by decide)
theorem gu_in32 {p ad : Int32} (hp : gu_pg p) (h0 : ¬ ad < 0) (h1 : ¬ 8 * p ≤ ad) : vp_in ad 32 ∧ vp_in (ad >>> ((3 : Int32) &&& 31)) 4 := by
  obtain ⟨n, _, hn4, rfl⟩ := hp
  obtain ⟨j, hj, rfl⟩ := nI_of h0
  have e8 : (8 : Int32) * nI n = nI (8 * n) := pk_mul 8 n
  rw [e8, nI_leI (by omega) hj] at h1
  refine ⟨vp_in_nI (by omega) (by omega), ?_⟩
  rw [pk_shrN hj ((3 : Int32) &&& 31) 3 (by decide)]
  exact vp_in_nI (by omega) (by omega)
theorem gu_ld_in {p ad : Int32} {rt : Nat → Int32} (hp : gu_pg p) (h : gu_ld p rt ad = 0) : ¬ ad < 0 ∧ ¬ 8 * p ≤ ad ∧ ¬ rt (ad >>> ((3 : Int32) &&& 31)).toNatClampNeg = 0 ∧ vp_in ad 32 := by
  unfold gu_ld at h
  by_cases h0 : ad < 0
  · rw [if_pos h0] at h; exact absurd h (by decide)
  rw [if_neg h0] at h
  by_cases h1 : 8 * p ≤ ad
  · rw [if_pos h1] at h; exact absurd h (by decide)
  rw [if_neg h1] at h
  by_cases h2 : rt (ad >>> ((3 : Int32) &&& 31)).toNatClampNeg = 0
  · rw [if_pos h2] at h; exact absurd h (by decide)
  exact ⟨h0, h1, h2, (gu_in32 hp h0 h1).1⟩
theorem gu_sv_in {p ad : Int32} {rt : Nat → Int32} (hp : gu_pg p) (h : gu_sv p rt ad = 0) : ¬ ad < 0 ∧ ¬ 8 * p ≤ ad ∧ 2 ≤ rt (ad >>> ((3 : Int32) &&& 31)).toNatClampNeg ∧ vp_in ad 32 := by
  unfold gu_sv at h
  by_cases h0 : ad < 0
  · rw [if_pos h0] at h; exact absurd h (by decide)
  rw [if_neg h0] at h
  by_cases h1 : 8 * p ≤ ad
  · rw [if_pos h1] at h; exact absurd h (by decide)
  rw [if_neg h1] at h
  by_cases h2 : 2 ≤ rt (ad >>> ((3 : Int32) &&& 31)).toNatClampNeg
  · exact ⟨h0, h1, h2, (gu_in32 hp h0 h1).1⟩
  · rw [if_neg h2] at h; exact absurd h (by decide)
theorem gu_sv_ld {p ad : Int32} {rt : Nat → Int32} (h : gu_sv p rt ad = 0) : gu_ld p rt ad = 0 := by
  unfold gu_sv at h
  unfold gu_ld
  by_cases h0 : ad < 0
  · rw [if_pos h0] at h; exact absurd h (by decide)
  rw [if_neg h0] at h ⊢
  by_cases h1 : 8 * p ≤ ad
  · rw [if_pos h1] at h; exact absurd h (by decide)
  rw [if_neg h1] at h ⊢
  by_cases h2 : 2 ≤ rt (ad >>> ((3 : Int32) &&& 31)).toNatClampNeg
  · rw [if_neg]
    intro e
    rw [e] at h2
    exact absurd h2 (by decide)
  · rw [if_neg h2] at h; exact absurd h (by decide)
theorem gR_0 (a b c : Int32) (R : Nat → Int32) (F : Int32) (M : Nat → Int32) : gu_R 0 a b c R F M = upd R a.toNatClampNeg c := by
  unfold gu_R
  rw [if_pos rfl]
theorem gF_0 (b c : Int32) (R : Nat → Int32) (F : Int32) : gu_F 0 b c R F = F := by
  unfold gu_F
  rw [if_pos (by decide)]
theorem gM_0 (a b c : Int32) (R M : Nat → Int32) : gu_M 0 a b c R M = M := by
  unfold gu_M
  rw [if_neg (by decide)]
theorem gP_0 (h c pc : Int32) : gu_pc 0 h c pc = pc + 1 := by
  unfold gu_pc
  rw [if_neg (by decide)]
theorem gR_1 (a b c : Int32) (R : Nat → Int32) (F : Int32) (M : Nat → Int32) : gu_R 1 a b c R F M = upd R a.toNatClampNeg (gu_cmp 1 (R b.toNatClampNeg) (R (c &&& 7).toNatClampNeg) F) := by
  unfold gu_R
  rw [if_neg (by decide), if_neg (by decide), if_neg (by decide), if_neg (by decide), if_neg (by decide)]
theorem gF_1 (b c : Int32) (R : Nat → Int32) (F : Int32) : gu_F 1 b c R F = gu_flg 1 (R b.toNatClampNeg) (R (c &&& 7).toNatClampNeg) F := by
  unfold gu_F
  rw [if_neg (by decide), if_neg (by decide)]
theorem gM_1 (a b c : Int32) (R M : Nat → Int32) : gu_M 1 a b c R M = M := by
  unfold gu_M
  rw [if_neg (by decide)]
theorem gP_1 (h c pc : Int32) : gu_pc 1 h c pc = pc + 1 := by
  unfold gu_pc
  rw [if_neg (by decide)]
theorem gR_2 (a b c : Int32) (R : Nat → Int32) (F : Int32) (M : Nat → Int32) : gu_R 2 a b c R F M = upd R a.toNatClampNeg (gu_cmp 2 (R b.toNatClampNeg) (R (c &&& 7).toNatClampNeg) F) := by
  unfold gu_R
  rw [if_neg (by decide), if_neg (by decide), if_neg (by decide), if_neg (by decide), if_neg (by decide)]
theorem gF_2 (b c : Int32) (R : Nat → Int32) (F : Int32) : gu_F 2 b c R F = gu_flg 2 (R b.toNatClampNeg) (R (c &&& 7).toNatClampNeg) F := by
  unfold gu_F
  rw [if_neg (by decide), if_neg (by decide)]
theorem gM_2 (a b c : Int32) (R M : Nat → Int32) : gu_M 2 a b c R M = M := by
  unfold gu_M
  rw [if_neg (by decide)]
theorem gP_2 (h c pc : Int32) : gu_pc 2 h c pc = pc + 1 := by
  unfold gu_pc
  rw [if_neg (by decide)]
theorem gR_3 (a b c : Int32) (R : Nat → Int32) (F : Int32) (M : Nat → Int32) : gu_R 3 a b c R F M = upd R a.toNatClampNeg (gu_cmp 3 (R b.toNatClampNeg) (R (c &&& 7).toNatClampNeg) F) := by
  unfold gu_R
  rw [if_neg (by decide), if_neg (by decide), if_neg (by decide), if_neg (by decide), if_neg (by decide)]
theorem gF_3 (b c : Int32) (R : Nat → Int32) (F : Int32) : gu_F 3 b c R F = gu_flg 3 (R b.toNatClampNeg) (R (c &&& 7).toNatClampNeg) F := by
  unfold gu_F
  rw [if_neg (by decide), if_neg (by decide)]
theorem gM_3 (a b c : Int32) (R M : Nat → Int32) : gu_M 3 a b c R M = M := by
  unfold gu_M
  rw [if_neg (by decide)]
theorem gP_3 (h c pc : Int32) : gu_pc 3 h c pc = pc + 1 := by
  unfold gu_pc
  rw [if_neg (by decide)]
theorem gR_4 (a b c : Int32) (R : Nat → Int32) (F : Int32) (M : Nat → Int32) : gu_R 4 a b c R F M = upd R a.toNatClampNeg (gu_cmp 4 (R b.toNatClampNeg) (R (c &&& 7).toNatClampNeg) F) := by
  unfold gu_R
  rw [if_neg (by decide), if_neg (by decide), if_neg (by decide), if_neg (by decide), if_neg (by decide)]
theorem gF_4 (b c : Int32) (R : Nat → Int32) (F : Int32) : gu_F 4 b c R F = gu_flg 4 (R b.toNatClampNeg) (R (c &&& 7).toNatClampNeg) F := by
  unfold gu_F
  rw [if_neg (by decide), if_neg (by decide)]
theorem gM_4 (a b c : Int32) (R M : Nat → Int32) : gu_M 4 a b c R M = M := by
  unfold gu_M
  rw [if_neg (by decide)]
theorem gP_4 (h c pc : Int32) : gu_pc 4 h c pc = pc + 1 := by
  unfold gu_pc
  rw [if_neg (by decide)]
theorem gR_5 (a b c : Int32) (R : Nat → Int32) (F : Int32) (M : Nat → Int32) : gu_R 5 a b c R F M = upd R a.toNatClampNeg (gu_cmp 5 (R b.toNatClampNeg) (R (c &&& 7).toNatClampNeg) F) := by
  unfold gu_R
  rw [if_neg (by decide), if_neg (by decide), if_neg (by decide), if_neg (by decide), if_neg (by decide)]
theorem gF_5 (b c : Int32) (R : Nat → Int32) (F : Int32) : gu_F 5 b c R F = gu_flg 5 (R b.toNatClampNeg) (R (c &&& 7).toNatClampNeg) F := by
  unfold gu_F
  rw [if_neg (by decide), if_neg (by decide)]
theorem gM_5 (a b c : Int32) (R M : Nat → Int32) : gu_M 5 a b c R M = M := by
  unfold gu_M
  rw [if_neg (by decide)]
theorem gP_5 (h c pc : Int32) : gu_pc 5 h c pc = pc + 1 := by
  unfold gu_pc
  rw [if_neg (by decide)]
theorem gR_6 (a b c : Int32) (R : Nat → Int32) (F : Int32) (M : Nat → Int32) : gu_R 6 a b c R F M = upd R a.toNatClampNeg (gu_cmp 6 (R b.toNatClampNeg) (R (c &&& 7).toNatClampNeg) F) := by
  unfold gu_R
  rw [if_neg (by decide), if_neg (by decide), if_neg (by decide), if_neg (by decide), if_neg (by decide)]
theorem gF_6 (b c : Int32) (R : Nat → Int32) (F : Int32) : gu_F 6 b c R F = F := by
  unfold gu_F
  rw [if_neg (by decide), if_pos (by decide)]
theorem gM_6 (a b c : Int32) (R M : Nat → Int32) : gu_M 6 a b c R M = M := by
  unfold gu_M
  rw [if_neg (by decide)]
theorem gP_6 (h c pc : Int32) : gu_pc 6 h c pc = pc + 1 := by
  unfold gu_pc
  rw [if_neg (by decide)]
theorem gR_7 (a b c : Int32) (R : Nat → Int32) (F : Int32) (M : Nat → Int32) : gu_R 7 a b c R F M = upd R a.toNatClampNeg (gu_cmp 7 (R b.toNatClampNeg) (R (c &&& 7).toNatClampNeg) F) := by
  unfold gu_R
  rw [if_neg (by decide), if_neg (by decide), if_neg (by decide), if_neg (by decide), if_neg (by decide)]
theorem gF_7 (b c : Int32) (R : Nat → Int32) (F : Int32) : gu_F 7 b c R F = F := by
  unfold gu_F
  rw [if_neg (by decide), if_pos (by decide)]
theorem gM_7 (a b c : Int32) (R M : Nat → Int32) : gu_M 7 a b c R M = M := by
  unfold gu_M
  rw [if_neg (by decide)]
theorem gP_7 (h c pc : Int32) : gu_pc 7 h c pc = pc + 1 := by
  unfold gu_pc
  rw [if_neg (by decide)]
theorem gR_8 (a b c : Int32) (R : Nat → Int32) (F : Int32) (M : Nat → Int32) : gu_R 8 a b c R F M = upd R a.toNatClampNeg (R b.toNatClampNeg <<< ((c &&& 31) &&& 31)) := by
  unfold gu_R
  rw [if_neg (by decide), if_pos rfl]
theorem gF_8 (b c : Int32) (R : Nat → Int32) (F : Int32) : gu_F 8 b c R F = F := by
  unfold gu_F
  rw [if_neg (by decide), if_pos (by decide)]
theorem gM_8 (a b c : Int32) (R M : Nat → Int32) : gu_M 8 a b c R M = M := by
  unfold gu_M
  rw [if_neg (by decide)]
theorem gP_8 (h c pc : Int32) : gu_pc 8 h c pc = pc + 1 := by
  unfold gu_pc
  rw [if_neg (by decide)]
theorem gR_9 (a b c : Int32) (R : Nat → Int32) (F : Int32) (M : Nat → Int32) : gu_R 9 a b c R F M = upd R a.toNatClampNeg (M (R b.toNatClampNeg + c).toNatClampNeg) := by
  unfold gu_R
  rw [if_neg (by decide), if_neg (by decide), if_pos rfl]
theorem gF_9 (b c : Int32) (R : Nat → Int32) (F : Int32) : gu_F 9 b c R F = F := by
  unfold gu_F
  rw [if_neg (by decide), if_pos (by decide)]
theorem gM_9 (a b c : Int32) (R M : Nat → Int32) : gu_M 9 a b c R M = M := by
  unfold gu_M
  rw [if_neg (by decide)]
theorem gP_9 (h c pc : Int32) : gu_pc 9 h c pc = pc + 1 := by
  unfold gu_pc
  rw [if_neg (by decide)]
theorem gR_10 (a b c : Int32) (R : Nat → Int32) (F : Int32) (M : Nat → Int32) : gu_R 10 a b c R F M = R := by
  unfold gu_R
  rw [if_neg (by decide), if_neg (by decide), if_neg (by decide), if_pos rfl]
theorem gF_10 (b c : Int32) (R : Nat → Int32) (F : Int32) : gu_F 10 b c R F = F := by
  unfold gu_F
  rw [if_neg (by decide), if_pos (by decide)]
theorem gM_10 (a b c : Int32) (R M : Nat → Int32) : gu_M 10 a b c R M = upd M (R b.toNatClampNeg + c).toNatClampNeg (R a.toNatClampNeg) := by
  unfold gu_M
  rw [if_pos rfl]
theorem gP_10 (h c pc : Int32) : gu_pc 10 h c pc = pc + 1 := by
  unfold gu_pc
  rw [if_neg (by decide)]
theorem gR_11 (a b c : Int32) (R : Nat → Int32) (F : Int32) (M : Nat → Int32) : gu_R 11 a b c R F M = R := by
  unfold gu_R
  rw [if_neg (by decide), if_neg (by decide), if_neg (by decide), if_neg (by decide), if_pos rfl]
theorem gF_11 (b c : Int32) (R : Nat → Int32) (F : Int32) : gu_F 11 b c R F = F := by
  unfold gu_F
  rw [if_neg (by decide), if_pos (by decide)]
theorem gM_11 (a b c : Int32) (R M : Nat → Int32) : gu_M 11 a b c R M = M := by
  unfold gu_M
  rw [if_neg (by decide)]
theorem gP_11 (h c pc : Int32) : gu_pc 11 h c pc = if h = 0 then pc + 1 else c := by
  unfold gu_pc
  rw [if_pos rfl]
theorem gf_n {o b c pg : Int32} {rt R : Nat → Int32} (h7 : o ≠ 7) (h9 : o ≠ 9) (h10 : o ≠ 10) : gu_flt pg rt o b c R = 0 := by
  unfold gu_flt
  rw [if_neg h7, if_neg h9, if_neg h10]
theorem gf_7 {b c pg : Int32} {rt R : Nat → Int32} : gu_flt pg rt 7 b c R = if R (c &&& 7).toNatClampNeg = 0 then 6 else 0 := by
  unfold gu_flt
  rw [if_pos rfl]
theorem gf_9 {b c pg : Int32} {rt R : Nat → Int32} : gu_flt pg rt 9 b c R = gu_ld pg rt (R b.toNatClampNeg + c) := by
  unfold gu_flt
  rw [if_neg (by decide), if_pos rfl]
theorem gf_10 {b c pg : Int32} {rt R : Nat → Int32} : gu_flt pg rt 10 b c R = gu_sv pg rt (R b.toNatClampNeg + c) := by
  unfold gu_flt
  rw [if_neg (by decide), if_neg (by decide), if_pos rfl]
/-! the reference's walks -/
variable {PG CN QZ QN QC QV CT SD FA : Int32} {RT OO JA JB OC RG CE : Nat → Int32}
theorem yw_ins {post : Int32 → Prop} {ad : Int32} (h0 : ad < 0 → post 0) (h1 : ¬ ad < 0 → 8 * PG ≤ ad → post 0) (h2 : ¬ ad < 0 → ¬ 8 * PG ≤ ad → post 1) : wpY_inside post (PG, CN, QZ, QN, QC, QV, CT, SD, FA, RT, OO, JA, JB, OC, RG, CE) ad :=
  br_c h0 (fun a => br_c (h1 a) (h2 a))
theorem yw_o79l {post : Int32 → Prop} (hp : gu_pg PG) (h40 : vp_in CT 40) (h : post (gu_ld PG RT (RG (JB CT.toNatClampNeg &&& 7).toNatClampNeg + OC CT.toNatClampNeg))) : wY_obstacle_79 post 9 PG CN QZ QN QC QV CT SD FA RT OO JA JB OC RG CE := by
  unfold gu_ld at h
  refine And.intro h40 (And.intro (gu_a7 _) (And.intro h40 (nm_e (yw_ins (fun a => ?_) (fun a b => ?_) (fun a b => ?_)))))
  · rw [if_pos a] at h
    exact br_t rfl h
  · rw [if_neg a, if_pos b] at h
    exact br_t rfl h
  · rw [if_neg a, if_neg b] at h
    refine br_f (by decide) (br_t rfl (And.intro (gu_in32 hp a b).2 (br_c (fun c => ?_) (fun c => ?_))))
    · rw [if_pos c] at h
      exact h
    · rw [if_neg c] at h
      exact br_f (by decide) h
theorem yw_o79s {post : Int32 → Prop} (hp : gu_pg PG) (h40 : vp_in CT 40) (h : post (gu_sv PG RT (RG (JB CT.toNatClampNeg &&& 7).toNatClampNeg + OC CT.toNatClampNeg))) : wY_obstacle_79 post 10 PG CN QZ QN QC QV CT SD FA RT OO JA JB OC RG CE := by
  unfold gu_sv at h
  refine And.intro h40 (And.intro (gu_a7 _) (And.intro h40 (nm_e (yw_ins (fun a => ?_) (fun a b => ?_) (fun a b => ?_)))))
  · rw [if_pos a] at h
    exact br_t rfl h
  · rw [if_neg a, if_pos b] at h
    exact br_t rfl h
  · rw [if_neg a, if_neg b] at h
    refine br_f (by decide) (br_f (by decide) (br_t rfl (And.intro (gu_in32 hp a b).2 (br_c (fun c => ?_) (fun c => ?_)))))
    · rw [if_pos c] at h
      exact h
    · rw [if_neg c] at h
      exact h
theorem yw_o67 {post : Int32 → Prop} {o : Int32} (hp : gu_pg PG) (h40 : vp_in CT 40) (n7 : o = 7 → ¬ RG (OC CT.toNatClampNeg &&& 7).toNatClampNeg = 0) (h : post (gu_flt PG RT o (JB CT.toNatClampNeg &&& 7) (OC CT.toNatClampNeg) RG)) : wY_obstacle_67 post o PG CN QZ QN QC QV CT SD FA RT OO JA JB OC RG CE := by
  unfold gu_flt at h
  refine br_c (fun e9 => ?_) (fun n9 => br_c (fun e10 => ?_) (fun n10 => ?_))
  · subst e9
    rw [if_neg (by decide), if_pos rfl] at h
    exact yw_o79l hp h40 h
  · subst e10
    rw [if_neg (by decide), if_neg (by decide), if_pos rfl] at h
    exact yw_o79s hp h40 h
  · rw [if_neg n9, if_neg n10] at h
    by_cases e7 : o = 7
    · rw [if_pos e7, if_neg (n7 e7)] at h
      exact h
    · rw [if_neg e7] at h
      exact h
theorem yw_obst {post : Int32 → Prop} (hp : gu_pg PG) (h40 : vp_in CT 40) (h0 : ¬ CT < 0) (hc : CT < CN) (h12 : ¬ OO CT.toNatClampNeg = 12) (h : post (gu_flt PG RT (OO CT.toNatClampNeg) (JB CT.toNatClampNeg &&& 7) (OC CT.toNatClampNeg) RG)) : wpY_obstacle post (PG, CN, QZ, QN, QC, QV, CT, SD, FA, RT, OO, JA, JB, OC, RG, CE) := by
  refine br_f h0 (br_t hc (And.intro h40 (nm_e (br_f h12 (br_c (fun e7 => And.intro h40 (And.intro (gu_a7 _) (br_c (fun ez => ?_) (fun nz => ?_)))) (fun n7 => ?_))))))
  · unfold gu_flt at h
    rw [if_pos e7, if_pos ez] at h
    exact h
  · exact yw_o67 hp h40 (fun _ => nz) h
  · exact yw_o67 hp h40 (fun e => absurd e n7) h
theorem yw_holds {post : Int32 → Prop} {a : Int32} (h : post (gu_hold QZ QN QC QV a)) : wpY_holds post (PG, CN, QZ, QN, QC, QV, CT, SD, FA, RT, OO, JA, JB, OC, RG, CE) a := by
  unfold gu_hold at h
  unfold wpY_holds
  dsimp only
  refine ⟨fun e => by rw [if_pos e] at h; exact h, fun n0 => ?_⟩
  rw [if_neg n0] at h
  refine ⟨fun e => ?_, fun n1 => ?_⟩
  · rw [if_pos e] at h
    exact br_c (fun p => by rw [if_pos p] at h; exact h) (fun p => by rw [if_neg p] at h; exact h)
  rw [if_neg n1] at h
  refine ⟨fun e => ?_, fun n2 => ?_⟩
  · rw [if_pos e] at h
    exact br_c (fun p => by rw [if_pos p] at h; exact h) (fun p => by rw [if_neg p] at h; exact h)
  rw [if_neg n2] at h
  refine ⟨fun e => ?_, fun n3 => ?_⟩
  · rw [if_pos e] at h
    exact br_c (fun p => by rw [if_pos p] at h; exact h) (fun p => by rw [if_neg p] at h; exact h)
  rw [if_neg n3] at h
  refine ⟨fun e => ?_, fun n4 => ?_⟩
  · rw [if_pos e] at h
    exact br_c (fun p => by rw [if_pos p] at h; exact h) (fun p => by rw [if_neg p] at h; exact h)
  rw [if_neg n4] at h
  refine ⟨fun e => ?_, fun n5 => ?_⟩
  · rw [if_pos e] at h
    exact br_c (fun p => by rw [if_pos p] at h; exact h) (fun p => by rw [if_neg p] at h; exact h)
  rw [if_neg n5] at h
  refine ⟨fun e => ?_, fun n6 => ?_⟩
  · rw [if_pos e] at h
    exact br_c (fun p => by rw [if_pos p] at h; exact h) (fun p => by rw [if_neg p] at h; exact h)
  rw [if_neg n6] at h
  exact br_c (fun p => by rw [if_pos p] at h; exact h) (fun p => by rw [if_neg p] at h; exact h)
theorem yw_signs {post : SY → Prop} {r c v : Int32} (h : post (PG, CN, gu_z r, gu_n r, if c = 0 then 0 else 1, if v = 0 then 0 else 1, CT, SD, FA, RT, OO, JA, JB, OC, RG, CE)) : wpY_signs post (PG, CN, QZ, QN, QC, QV, CT, SD, FA, RT, OO, JA, JB, OC, RG, CE) r c v := by
  unfold gu_z gu_n at h
  refine br_c (fun a => ?_) (fun a => ?_)
  all_goals first | rw [if_pos a] at h | rw [if_neg a] at h
  all_goals refine br_c (fun b => ?_) (fun b => ?_)
  all_goals first | rw [if_pos b] at h | rw [if_neg b] at h
  all_goals refine br_c (fun b => ?_) (fun b => ?_)
  all_goals first | rw [if_pos b] at h | rw [if_neg b] at h
  all_goals exact br_c (fun d => by rw [if_pos d] at h; exact h) (fun d => by rw [if_neg d] at h; exact h)
theorem yw_sum {post : Int32 → SY → Prop} {x y c : Int32} (h : post ((x + y) + c) (PG, CN, gu_z ((x + y) + c), gu_n ((x + y) + c), gu_cs x y c, gu_vs x y c ((x + y) + c), CT, SD, FA, RT, OO, JA, JB, OC, RG, CE)) : wpY_sum post (PG, CN, QZ, QN, QC, QV, CT, SD, FA, RT, OO, JA, JB, OC, RG, CE) x y c := by
  unfold gu_cs gu_vs at h
  refine nm_e (nm_e (nm_e (br_c (fun a => ?_) (fun a => ?_))))
  · rw [if_pos ((gu_lt32 _).mp a)] at h
    exact br_c (fun b => yw_signs (by rw [if_pos b] at h; exact h)) (fun b => yw_signs (by rw [if_neg b] at h; exact h))
  · rw [if_neg (fun z => a ((gu_lt32 _).mpr z))] at h
    exact br_c (fun b => yw_signs (by rw [if_pos b] at h; exact h)) (fun b => yw_signs (by rw [if_neg b] at h; exact h))
theorem yw_dif {post : Int32 → SY → Prop} {x y : Int32} (h : post (x - y) (PG, CN, gu_z (x - y), gu_n (x - y), gu_cd x y, gu_vd x y (x - y), CT, SD, FA, RT, OO, JA, JB, OC, RG, CE)) : wpY_difference post (PG, CN, QZ, QN, QC, QV, CT, SD, FA, RT, OO, JA, JB, OC, RG, CE) x y := by
  unfold gu_cd gu_vd at h
  refine nm_e (nm_e (br_c (fun a => ?_) (fun a => ?_)))
  · rw [if_pos a] at h
    exact br_c (fun b => yw_signs (by rw [if_pos b] at h; exact h)) (fun b => yw_signs (by rw [if_neg b] at h; exact h))
  · rw [if_neg a] at h
    exact br_c (fun b => yw_signs (by rw [if_pos b] at h; exact h)) (fun b => yw_signs (by rw [if_neg b] at h; exact h))
theorem yw_work {post : Int32 → SY → Prop} {o x y F : Int32} (ho : o = 1 ∨ o = 2 ∨ o = 3 ∨ o = 4 ∨ o = 5) (hb : gu_bt QZ QN QC QV F) (h : ∀ z n c v : Int32, gu_bt z n c v (gu_flg o x y F) → post (gu_cmp o x y F) (PG, CN, z, n, c, v, CT, SD, FA, RT, OO, JA, JB, OC, RG, CE)) : wpY_worked post (PG, CN, QZ, QN, QC, QV, CT, SD, FA, RT, OO, JA, JB, OC, RG, CE) o x y := by
  rcases ho with rfl | rfl | rfl | rfl | rfl
  · refine br_t rfl (yw_sum ?_)
    have e : gu_cmp 1 x y F = (x + y) + 0 := (Int32.add_zero _).symm
    rw [e] at h
    refine h _ _ _ _ ?_
    have e2 : gu_flg 1 x y F = gu_sf (gu_sg ((x + y) + 0)) x y 0 ((x + y) + 0) := by rw [Int32.add_zero]; rfl
    rw [e2]
    exact gu_sf_bt _ _ _ _
  · refine br_f (by decide) (br_t rfl (yw_dif ?_))
    exact h _ _ _ _ (gu_df_bt _ _ _)
  · refine br_f (by decide) (br_f (by decide) (br_f (by decide) (br_t rfl (yw_signs ?_))))
    exact h _ _ _ _ (gu_sg_bt _)
  · refine br_f (by decide) (br_f (by decide) (br_f (by decide) (br_f (by decide) (yw_signs ?_))))
    exact h _ _ _ _ (gu_sg_bt _)
  · refine br_f (by decide) (br_f (by decide) (br_t rfl (yw_sum ?_)))
    have ec : gu_cin F = QC := gu_bt_cin hb
    have e : gu_cmp 5 x y F = (x + y) + QC := by rw [← ec]; rfl
    rw [e] at h
    refine h _ _ _ _ ?_
    have e2 : gu_flg 5 x y F = gu_sf (gu_sg ((x + y) + QC)) x y QC ((x + y) + QC) := by rw [← ec]; rfl
    rw [e2]
    exact gu_sf_bt _ _ _ _
theorem yw_223n {post : SY → Prop} {o a c nx : Int32} (n11 : ¬ o = 11) (h : post (PG, CN, QZ, QN, QC, QV, nx, SD, FA, RT, OO, JA, JB, OC, RG, CE)) : wY_carryOut_223 post o a c nx PG CN QZ QN QC QV CT SD FA RT OO JA JB OC RG CE := br_f n11 h
theorem yw_114n {post : SY → Prop} {o a x c y ad nx : Int32} (n6 : ¬ o = 6) (n7 : ¬ o = 7) (n8 : ¬ o = 8) (n9 : ¬ o = 9) (n10 : ¬ o = 10) (h : wY_carryOut_223 post o a c nx PG CN QZ QN QC QV CT SD FA RT OO JA JB OC RG CE) : wY_carryOut_114 post o a x c y ad nx PG CN QZ QN QC QV CT SD FA RT OO JA JB OC RG CE :=
  br_f n6 (br_f n7 (br_f n8 (br_f n9 (br_f n10 h))))
/-- what carryOut asks behind its reads -/
def yw_core (post : SY → Prop) (o a x c y ad nx : Int32) (PG CN QZ QN QC QV CT SD FA : Int32) (RT OO JA JB OC RG CE : Nat → Int32) : Prop := (o = 0 → (vp_in a 8 ∧ ∀ w : Nat → Int32, w = upd RG a.toNatClampNeg c → wY_carryOut_90 post o a x c y ad nx PG CN QZ QN QC QV CT SD FA RT OO JA JB OC w CE)) ∧ (¬ o = 0 → wY_carryOut_90 post o a x c y ad nx PG CN QZ QN QC QV CT SD FA RT OO JA JB OC RG CE)
theorem yw_pre {post : SY → Prop} (h40 : vp_in CT 40) (h : yw_core post (OO CT.toNatClampNeg) (JA CT.toNatClampNeg &&& 7) (RG (JB CT.toNatClampNeg &&& 7).toNatClampNeg) (OC CT.toNatClampNeg) (RG (OC CT.toNatClampNeg &&& 7).toNatClampNeg) (RG (JB CT.toNatClampNeg &&& 7).toNatClampNeg + OC CT.toNatClampNeg) (CT + 1) PG CN QZ QN QC QV CT SD FA RT OO JA JB OC RG CE) : wpY_carryOut post (PG, CN, QZ, QN, QC, QV, CT, SD, FA, RT, OO, JA, JB, OC, RG, CE) :=
  And.intro h40 (nm_e (And.intro h40 (nm_e (And.intro h40 (And.intro (gu_a7 _) (nm_e (And.intro h40 (nm_e (And.intro (gu_a7 _) (nm_e (nm_e (nm_e h))))))))))))
variable {post : SY → Prop} {a b c x y ad nx F : Int32}
theorem yc_0 (ha : vp_in a 8) (h : post (PG, CN, QZ, QN, QC, QV, nx, SD, FA, RT, OO, JA, JB, OC, upd RG a.toNatClampNeg c, CE)) : yw_core post 0 a x c y ad nx PG CN QZ QN QC QV CT SD FA RT OO JA JB OC RG CE :=
  br_t rfl (And.intro ha (nm_e (br_t (by decide) (yw_114n (by decide) (by decide) (by decide) (by decide) (by decide) (yw_223n (by decide) h)))))
theorem yc_w {o : Int32} (ho : o = 1 ∨ o = 2 ∨ o = 3 ∨ o = 4 ∨ o = 5) (ha : vp_in a 8) (hb : gu_bt QZ QN QC QV F) (h : ∀ z n c v : Int32, gu_bt z n c v (gu_flg o x y F) → post (PG, CN, z, n, c, v, nx, SD, FA, RT, OO, JA, JB, OC, upd RG a.toNatClampNeg (gu_cmp o x y F), CE)) : yw_core post o a x c y ad nx PG CN QZ QN QC QV CT SD FA RT OO JA JB OC RG CE := by
  have n0 : ¬ o = 0 := by rcases ho with rfl | rfl | rfl | rfl | rfl <;> decide
  have l1 : ¬ o < 1 := by rcases ho with rfl | rfl | rfl | rfl | rfl <;> decide
  have l5 : ¬ 5 < o := by rcases ho with rfl | rfl | rfl | rfl | rfl <;> decide
  have n6 : ¬ o = 6 := by rcases ho with rfl | rfl | rfl | rfl | rfl <;> decide
  have n7 : ¬ o = 7 := by rcases ho with rfl | rfl | rfl | rfl | rfl <;> decide
  have n8 : ¬ o = 8 := by rcases ho with rfl | rfl | rfl | rfl | rfl <;> decide
  have n9 : ¬ o = 9 := by rcases ho with rfl | rfl | rfl | rfl | rfl <;> decide
  have n10 : ¬ o = 10 := by rcases ho with rfl | rfl | rfl | rfl | rfl <;> decide
  have n11 : ¬ o = 11 := by rcases ho with rfl | rfl | rfl | rfl | rfl <;> decide
  exact br_f n0 (br_f l1 (br_f l5 (yw_work ho hb (fun z n cc v hq => And.intro ha (nm_e (yw_114n n6 n7 n8 n9 n10 (yw_223n n11 (h z n cc v hq))))))))
theorem yc_90 {o : Int32} (n0 : ¬ o = 0) (l5 : 5 < o) (h : wY_carryOut_114 post o a x c y ad nx PG CN QZ QN QC QV CT SD FA RT OO JA JB OC RG CE) : yw_core post o a x c y ad nx PG CN QZ QN QC QV CT SD FA RT OO JA JB OC RG CE :=
  br_f n0 (br_c (fun _ => h) (fun _ => br_t l5 h))
theorem yc_6 (ha : vp_in a 8) (h : post (PG, CN, QZ, QN, QC, QV, nx, SD, FA, RT, OO, JA, JB, OC, upd RG a.toNatClampNeg (x * y), CE)) : yw_core post 6 a x c y ad nx PG CN QZ QN QC QV CT SD FA RT OO JA JB OC RG CE :=
  yc_90 (by decide) (by decide) (br_t rfl (And.intro ha (nm_e (br_f (by decide) (br_f (by decide) (br_f (by decide) (br_f (by decide) (yw_223n (by decide) h))))))))
theorem yc_7 (ha : vp_in a 8) (y0 : ¬ y = 0) (h : post (PG, CN, QZ, QN, QC, QV, nx, SD, FA, RT, OO, JA, JB, OC, upd RG a.toNatClampNeg (x / y), CE)) : yw_core post 7 a x c y ad nx PG CN QZ QN QC QV CT SD FA RT OO JA JB OC RG CE := by
  have q := gu_quo (x := x) y0
  refine yc_90 (by decide) (by decide) (br_f (by decide) (br_t rfl (br_f y0 (And.intro q.1 (nm_e (And.intro ha (nm_e ?_)))))))
  rw [q.2]
  exact br_f (by decide) (br_f (by decide) (br_f (by decide) (yw_223n (by decide) h)))
theorem yc_8 (ha : vp_in a 8) (h : post (PG, CN, QZ, QN, QC, QV, nx, SD, FA, RT, OO, JA, JB, OC, upd RG a.toNatClampNeg (x <<< ((c &&& 31) &&& 31)), CE)) : yw_core post 8 a x c y ad nx PG CN QZ QN QC QV CT SD FA RT OO JA JB OC RG CE :=
  yc_90 (by decide) (by decide) (br_f (by decide) (br_f (by decide) (br_t rfl (And.intro ha (nm_e (br_f (by decide) (br_f (by decide) (yw_223n (by decide) h))))))))
theorem yc_9 (hp : gu_pg PG) (ha : vp_in a 8) (hl : gu_ld PG RT ad = 0) (h : post (PG, CN, QZ, QN, QC, QV, nx, SD, FA, RT, OO, JA, JB, OC, upd RG a.toNatClampNeg (CE ad.toNatClampNeg), CE)) : yw_core post 9 a x c y ad nx PG CN QZ QN QC QV CT SD FA RT OO JA JB OC RG CE := by
  have q := gu_ld_in hp hl
  refine yc_90 (by decide) (by decide) (br_f (by decide) (br_f (by decide) (br_f (by decide) (br_t rfl (yw_ins (fun z => absurd z q.1) (fun _ z => absurd z q.2.1) (fun _ _ => br_f (by decide) ?_))))))
  exact And.intro q.2.2.2 (And.intro ha (nm_e (br_f (by decide) (yw_223n (by decide) h))))
theorem yc_10 (hp : gu_pg PG) (ha : vp_in a 8) (hl : gu_sv PG RT ad = 0) (h : post (PG, CN, QZ, QN, QC, QV, nx, SD, FA, RT, OO, JA, JB, OC, RG, upd CE ad.toNatClampNeg (RG a.toNatClampNeg))) : yw_core post 10 a x c y ad nx PG CN QZ QN QC QV CT SD FA RT OO JA JB OC RG CE := by
  have q := gu_sv_in hp hl
  refine yc_90 (by decide) (by decide) (br_f (by decide) (br_f (by decide) (br_f (by decide) (br_f (by decide) (br_t rfl (yw_ins (fun z => absurd z q.1) (fun _ z => absurd z q.2.1) (fun _ _ => br_f (by decide) ?_)))))))
  exact And.intro ha (And.intro q.2.2.2 (nm_e (yw_223n (by decide) h)))
theorem yc_11 (h : post (PG, CN, QZ, QN, QC, QV, if gu_hold QZ QN QC QV a = 0 then nx else c, SD, FA, RT, OO, JA, JB, OC, RG, CE)) : yw_core post 11 a x c y ad nx PG CN QZ QN QC QV CT SD FA RT OO JA JB OC RG CE := by
  refine yc_90 (by decide) (by decide) (br_f (by decide) (br_f (by decide) (br_f (by decide) (br_f (by decide) (br_f (by decide) (br_t rfl (yw_holds ?_)))))))
  exact br_c (fun z => by rw [if_pos z] at h; exact h) (fun z => by rw [if_neg z] at h; exact h)
theorem yw_carry {on : Nat} (hp : gu_pg PG) (h40 : vp_in CT 40) (hon : on ≤ 11) (eo : OO CT.toNatClampNeg = nI on) (hf : gu_flt PG RT (OO CT.toNatClampNeg) (JB CT.toNatClampNeg &&& 7) (OC CT.toNatClampNeg) RG = 0) (hb : gu_bt QZ QN QC QV F)
    (h : ∀ z n c v : Int32, gu_bt z n c v (gu_F (OO CT.toNatClampNeg) (JB CT.toNatClampNeg &&& 7) (OC CT.toNatClampNeg) RG F) → post (PG, CN, z, n, c, v, gu_pc (OO CT.toNatClampNeg) (gu_hold z n c v (JA CT.toNatClampNeg &&& 7)) (OC CT.toNatClampNeg) CT, SD, FA, RT, OO, JA, JB, OC, gu_R (OO CT.toNatClampNeg) (JA CT.toNatClampNeg &&& 7) (JB CT.toNatClampNeg &&& 7) (OC CT.toNatClampNeg) RG F CE, gu_M (OO CT.toNatClampNeg) (JA CT.toNatClampNeg &&& 7) (JB CT.toNatClampNeg &&& 7) (OC CT.toNatClampNeg) RG CE)) : wpY_carryOut post (PG, CN, QZ, QN, QC, QV, CT, SD, FA, RT, OO, JA, JB, OC, RG, CE) := by
  refine yw_pre h40 ?_
  have ha : vp_in (JA CT.toNatClampNeg &&& 7) 8 := gu_a7 _
  have cs : on = 0 ∨ on = 1 ∨ on = 2 ∨ on = 3 ∨ on = 4 ∨ on = 5 ∨ on = 6 ∨ on = 7 ∨ on = 8 ∨ on = 9 ∨ on = 10 ∨ on = 11 := by omega
  rcases cs with rfl | rfl | rfl | rfl | rfl | rfl | rfl | rfl | rfl | rfl | rfl | rfl
  · have e : OO CT.toNatClampNeg = 0 := eo
    rw [e] at hf h ⊢
    have w := h QZ QN QC QV (by rw [gF_0]; exact hb)
    rw [gR_0, gM_0, gP_0] at w
    exact yc_0 ha w
  · have e : OO CT.toNatClampNeg = 1 := eo
    rw [e, gF_1, gR_1, gM_1] at h
    rw [e]
    exact yc_w (Or.inl rfl) ha hb (fun z n c v hq => by have w := h z n c v hq; rw [gP_1] at w; exact w)
  · have e : OO CT.toNatClampNeg = 2 := eo
    rw [e, gF_2, gR_2, gM_2] at h
    rw [e]
    exact yc_w (Or.inr (Or.inl rfl)) ha hb (fun z n c v hq => by have w := h z n c v hq; rw [gP_2] at w; exact w)
  · have e : OO CT.toNatClampNeg = 3 := eo
    rw [e, gF_3, gR_3, gM_3] at h
    rw [e]
    exact yc_w (Or.inr (Or.inr (Or.inl rfl))) ha hb (fun z n c v hq => by have w := h z n c v hq; rw [gP_3] at w; exact w)
  · have e : OO CT.toNatClampNeg = 4 := eo
    rw [e, gF_4, gR_4, gM_4] at h
    rw [e]
    exact yc_w (Or.inr (Or.inr (Or.inr (Or.inl rfl)))) ha hb (fun z n c v hq => by have w := h z n c v hq; rw [gP_4] at w; exact w)
  · have e : OO CT.toNatClampNeg = 5 := eo
    rw [e, gF_5, gR_5, gM_5] at h
    rw [e]
    exact yc_w (Or.inr (Or.inr (Or.inr (Or.inr rfl)))) ha hb (fun z n c v hq => by have w := h z n c v hq; rw [gP_5] at w; exact w)
  · have e : OO CT.toNatClampNeg = 6 := eo
    rw [e] at hf h ⊢
    have w := h QZ QN QC QV (by rw [gF_6]; exact hb)
    rw [gR_6, gM_6, gP_6] at w
    exact yc_6 ha w
  · have e : OO CT.toNatClampNeg = 7 := eo
    rw [e] at hf h ⊢
    have w := h QZ QN QC QV (by rw [gF_7]; exact hb)
    rw [gR_7, gM_7, gP_7] at w
    rw [gf_7] at hf
    have y0 : ¬ RG (OC CT.toNatClampNeg &&& 7).toNatClampNeg = 0 := by
      intro z
      rw [if_pos z] at hf
      exact absurd hf (by decide)
    have e7 : gu_cmp 7 (RG (JB CT.toNatClampNeg &&& 7).toNatClampNeg) (RG (OC CT.toNatClampNeg &&& 7).toNatClampNeg) F = RG (JB CT.toNatClampNeg &&& 7).toNatClampNeg / RG (OC CT.toNatClampNeg &&& 7).toNatClampNeg := by
      unfold gu_cmp
      rw [if_neg (by decide), if_neg (by decide), if_neg (by decide), if_neg (by decide), if_neg (by decide), if_neg (by decide), if_neg y0]
    rw [e7] at w
    exact yc_7 ha y0 w
  · have e : OO CT.toNatClampNeg = 8 := eo
    rw [e] at hf h ⊢
    have w := h QZ QN QC QV (by rw [gF_8]; exact hb)
    rw [gR_8, gM_8, gP_8] at w
    exact yc_8 ha w
  · have e : OO CT.toNatClampNeg = 9 := eo
    rw [e] at hf h ⊢
    have w := h QZ QN QC QV (by rw [gF_9]; exact hb)
    rw [gR_9, gM_9, gP_9] at w
    rw [gf_9] at hf
    exact yc_9 hp ha hf w
  · have e : OO CT.toNatClampNeg = 10 := eo
    rw [e] at hf h ⊢
    have w := h QZ QN QC QV (by rw [gF_10]; exact hb)
    rw [gR_10, gM_10, gP_10] at w
    rw [gf_10] at hf
    exact yc_10 hp ha hf w
  · have e : OO CT.toNatClampNeg = 11 := eo
    rw [e] at hf h ⊢
    have w := h QZ QN QC QV (by rw [gF_11]; exact hb)
    rw [gR_11, gM_11, gP_11] at w
    exact yc_11 w
end
end
section
section
/-! host operations (kind, x, y, z, imm, result, guest, snap), lists of them, and what a run of a list asks -/
abbrev ho_Op : Type := Int32 × Int32 × Int32 × Int32 × Int32 × Int32 × Int32 × Int32
abbrev ho_Sn : Type := Int32 × Int32 × Int32 × Int32
abbrev oq_k (o : ho_Op) : Int32 := o.1
abbrev oq_x (o : ho_Op) : Int32 := o.2.1
abbrev oq_y (o : ho_Op) : Int32 := o.2.2.1
abbrev oq_z (o : ho_Op) : Int32 := o.2.2.2.1
abbrev oq_i (o : ho_Op) : Int32 := o.2.2.2.2.1
abbrev oq_r (o : ho_Op) : Int32 := o.2.2.2.2.2.1
abbrev oq_g (o : ho_Op) : Int32 := o.2.2.2.2.2.2.1
abbrev oq_s (o : ho_Op) : Int32 := o.2.2.2.2.2.2.2
abbrev ho_K (H : Nat → ho_Op) : Nat → Int32 := fun j => oq_k (H j)
abbrev ho_X (H : Nat → ho_Op) : Nat → Int32 := fun j => oq_x (H j)
abbrev ho_Y (H : Nat → ho_Op) : Nat → Int32 := fun j => oq_y (H j)
abbrev ho_Z (H : Nat → ho_Op) : Nat → Int32 := fun j => oq_z (H j)
abbrev ho_I (H : Nat → ho_Op) : Nat → Int32 := fun j => oq_i (H j)
abbrev ho_R (H : Nat → ho_Op) : Nat → Int32 := fun j => oq_r (H j)
abbrev ho_G (H : Nat → ho_Op) : Nat → Int32 := fun j => oq_g (H j)
abbrev ho_S (H : Nat → ho_Op) : Nat → Int32 := fun j => oq_s (H j)
abbrev sn_K (Z : Nat → ho_Sn) : Nat → Int32 := fun j => (Z j).1
abbrev sn_X (Z : Nat → ho_Sn) : Nat → Int32 := fun j => (Z j).2.1
abbrev sn_Y (Z : Nat → ho_Sn) : Nat → Int32 := fun j => (Z j).2.2.1
abbrev sn_Z (Z : Nat → ho_Sn) : Nat → Int32 := fun j => (Z j).2.2.2
def ho_up (H : Nat → ho_Op) (i : Nat) (o : ho_Op) : Nat → ho_Op := fun j => if j = i then o else H j
def sn_up (Z : Nat → ho_Sn) (i : Nat) (o : ho_Sn) : Nat → ho_Sn := fun j => if j = i then o else Z j
theorem ho_ups {H : Nat → ho_Op} {i : Nat} {o : ho_Op} : ho_up H i o i = o := if_pos rfl
theorem ho_upn {H : Nat → ho_Op} {i j : Nat} {o : ho_Op} (h : j ≠ i) : ho_up H i o j = H j := if_neg h
theorem sn_ups {Z : Nat → ho_Sn} {i : Nat} {o : ho_Sn} : sn_up Z i o i = o := if_pos rfl
theorem sn_upn {Z : Nat → ho_Sn} {i j : Nat} {o : ho_Sn} (h : j ≠ i) : sn_up Z i o j = Z j := if_neg h
theorem ho_upf {H : Nat → ho_Op} {i c : Nat} {o : ho_Op} {v : Int32} (f : ho_Op → Int32) (hc : c = i) (hv : v = f o) : upd (fun j => f (H j)) c v = fun j => f (ho_up H i o j) := by
  subst hc hv
  funext j
  unfold upd ho_up
  by_cases h : j = c
  · rw [if_pos h, if_pos h]
  · rw [if_neg h, if_neg h]
theorem ho_upg {H : Nat → ho_Op} {i : Nat} {o o' : ho_Op} (f : ho_Op → Int32) (hv : f o = f o') : (fun j => f (ho_up H i o j)) = fun j => f (ho_up H i o' j) := by
  funext j
  unfold ho_up
  by_cases h : j = i
  · rw [if_pos h, if_pos h]; exact hv
  · rw [if_neg h, if_neg h]
theorem ho_upe {H : Nat → ho_Op} {i : Nat} {o : ho_Op} (f : ho_Op → Int32) (hv : f (H i) = f o) : (fun j => f (H j)) = fun j => f (ho_up H i o j) := by
  funext j
  unfold ho_up
  by_cases h : j = i
  · rw [if_pos h, h]; exact hv
  · rw [if_neg h]
theorem sn_upf {Z : Nat → ho_Sn} {i c : Nat} {o : ho_Sn} {v : Int32} (f : ho_Sn → Int32) (hc : c = i) (hv : v = f o) : upd (fun j => f (Z j)) c v = fun j => f (sn_up Z i o j) := by
  subst hc hv
  funext j
  unfold upd sn_up
  by_cases h : j = c
  · rw [if_pos h, if_pos h]
  · rw [if_neg h, if_neg h]
def ho_seg (H : Nat → ho_Op) (b : Nat) : Nat → List ho_Op
  | 0 => []
  | m + 1 => H b :: ho_seg H (b + 1) m
theorem ho_seg_s (H : Nat → ho_Op) : ∀ (m b : Nat), ho_seg H b (m + 1) = ho_seg H b m ++ [H (b + m)]
  | 0, b => rfl
  | m + 1, b => by
    show H b :: ho_seg H (b + 1) (m + 1) = H b :: (ho_seg H (b + 1) m ++ [H (b + (m + 1))])
    rw [ho_seg_s H m (b + 1), show b + 1 + m = b + (m + 1) by omega]
theorem ho_seg_c {H H' : Nat → ho_Op} : ∀ (m b : Nat), (∀ j, b ≤ j → j < b + m → H j = H' j) → ho_seg H b m = ho_seg H' b m
  | 0, _, _ => rfl
  | m + 1, b, h => by
    show H b :: ho_seg H (b + 1) m = H' b :: ho_seg H' (b + 1) m
    rw [h b (by omega) (by omega), ho_seg_c m (b + 1) (fun j h1 h2 => h j (by omega) (by omega))]
theorem ho_seg_a (H : Nat → ho_Op) : ∀ (m b n : Nat), ho_seg H b (m + n) = ho_seg H b m ++ ho_seg H (b + m) n
  | 0, b, n => by rw [Nat.zero_add]; rfl
  | m + 1, b, n => by
    rw [show m + 1 + n = (m + n) + 1 by omega]
    show H b :: ho_seg H (b + 1) (m + n) = H b :: (ho_seg H (b + 1) m ++ ho_seg H (b + (m + 1)) n)
    rw [ho_seg_a H m (b + 1) n, show b + 1 + m = b + (m + 1) by omega]
theorem ho_seg_l (H : Nat → ho_Op) : ∀ (m b : Nat), (ho_seg H b m).length = m
  | 0, _ => rfl
  | m + 1, b => by
    show (ho_seg H (b + 1) m).length + 1 = m + 1
    rw [ho_seg_l H m (b + 1)]
theorem ho_seg_m {H : Nat → ho_Op} {o : ho_Op} : ∀ {m b : Nat}, o ∈ ho_seg H b m → ∃ j, j < m ∧ o = H (b + j)
  | 0, b, h => by cases h
  | m + 1, b, h => by
    rcases List.mem_cons.mp h with e | e
    · exact ⟨0, by omega, e⟩
    · obtain ⟨j, hj, e2⟩ := ho_seg_m e
      exact ⟨j + 1, by omega, by rw [e2, show b + 1 + j = b + (j + 1) by omega]⟩
theorem ho_seg_i {H : Nat → ho_Op} : ∀ {m b j : Nat}, j < m → H (b + j) ∈ ho_seg H b m
  | 0, b, j, h => by omega
  | m + 1, b, 0, h => List.mem_cons_self
  | m + 1, b, j + 1, h => by
    refine List.mem_cons.mpr (Or.inr ?_)
    rw [show b + (j + 1) = b + 1 + j by omega]
    exact ho_seg_i (by omega)
/-! one operation -/
def ho_val (V : Nat → Int32) (o : ho_Op) : Int32 := if oq_k o = 0 then oq_i o else if oq_k o = 8 then V (oq_x o).toNatClampNeg <<< (oq_i o &&& 31) else if oq_k o = 11 then gu_flg (oq_i o) (V (oq_x o).toNatClampNeg) (V (oq_y o).toNatClampNeg) (V (oq_z o).toNatClampNeg) else gu_cmp (oq_k o) (V (oq_x o).toNatClampNeg) (V (oq_y o).toNatClampNeg) (V (oq_z o).toNatClampNeg)
def ho_ad (V : Nat → Int32) (o : ho_Op) : Int32 := V (oq_x o).toNatClampNeg + oq_i o
def ho_flt (pg : Int32) (rt : Nat → Int32) (V : Nat → Int32) (o : ho_Op) : Int32 := if oq_k o = 9 then gu_ld pg rt (ho_ad V o) else if oq_k o = 10 then gu_sv pg rt (ho_ad V o) else if oq_k o = 7 then (if V (oq_y o).toNatClampNeg = 0 then 6 else 0) else 0
def ho_eff (V M : Nat → Int32) (o : ho_Op) : Int32 := if oq_k o = 9 then M (ho_ad V o).toNatClampNeg else ho_val V o
def ho_mem (V M : Nat → Int32) (o : ho_Op) : Nat → Int32 := if oq_k o = 10 then upd M (ho_ad V o).toNatClampNeg (V (oq_y o).toNatClampNeg) else M
def ho_good (pg : Int32) (rt V M : Nat → Int32) (o : ho_Op) : Prop := ho_flt pg rt V o = 0 ∧ (oq_k o ≠ 10 → V (oq_r o).toNatClampNeg = ho_eff V M o)
def ho_use (D : Nat → Prop) (o : ho_Op) : Prop := D (oq_x o).toNatClampNeg ∧ (oq_k o ≠ 9 → D (oq_y o).toNatClampNeg ∧ D (oq_z o).toNatClampNeg)
def ho_D (D : Nat → Prop) (o : ho_Op) : Nat → Prop := fun t => D t ∨ (oq_k o ≠ 10 ∧ t = (oq_r o).toNatClampNeg)
def ho_plain (o : ho_Op) : Prop := oq_k o ≠ 9 ∧ oq_k o ≠ 10
def ho_rec (pg : Int32) (rt V : Nat → Int32) (e : Int32) (M : Nat → Int32) (S : (Nat → Prop) → Prop) : List ho_Op → (Nat → Prop) → Prop
  | [], D => S D
  | o :: l, D => ((oq_s o < 0 ∧ oq_g o < e) ∧ ho_use D o ∧ ho_plain o ∧ ho_good pg rt V M o ∧ ho_rec pg rt V e M S l (ho_D D o)) ∨ (¬ (oq_s o < 0 ∧ oq_g o < e) ∧ ho_rec pg rt V e M S l D)
def ho_run (pg : Int32) (rt V : Nat → Int32) (e code ad : Int32) (Mf : Nat → Int32) (S : Int32 → (Nat → Prop) → Prop) (Q : (Nat → Prop) → (Nat → Int32) → Prop) : List ho_Op → (Nat → Prop) → (Nat → Int32) → Prop
  | [], D, M => Q D M
  | o :: l, D, M => ho_use D o ∧ ((code ≠ 0 ∧ ¬ oq_s o < 0 ∧ oq_g o = e ∧ ho_flt pg rt V o = code ∧ (oq_k o ≠ 7 → ho_ad V o = ad) ∧ M = Mf ∧ ho_rec pg rt V e M (S (oq_s o)) l D) ∨ (oq_g o < e ∧ ho_good pg rt V M o ∧ (oq_s o < 0 → ho_plain o) ∧ ho_run pg rt V e code ad Mf S Q l (ho_D D o) (ho_mem V M o)))
variable {pg e code ad : Int32} {rt V V' Mf : Nat → Int32} {S S' : Int32 → (Nat → Prop) → Prop} {Q Q' : (Nat → Prop) → (Nat → Int32) → Prop}
theorem ho_use_mono {D D' : Nat → Prop} {o : ho_Op} (h : ∀ t, D t → D' t) (u : ho_use D o) : ho_use D' o := ⟨h _ u.1, fun n => ⟨h _ (u.2 n).1, h _ (u.2 n).2⟩⟩
theorem ho_D_mono {D D' : Nat → Prop} (o : ho_Op) (h : ∀ t, D t → D' t) : ∀ t, ho_D D o t → ho_D D' o t := fun t ht => ht.imp (h t) id
/-! D may grow -/
theorem ho_rec_mono {M : Nat → Int32} {T : (Nat → Prop) → Prop} (hT : ∀ D D' : Nat → Prop, (∀ t, D t → D' t) → T D → T D') : ∀ (l : List ho_Op) (D D' : Nat → Prop), (∀ t, D t → D' t) → ho_rec pg rt V e M T l D → ho_rec pg rt V e M T l D'
  | [], D, D', h, r => hT D D' h r
  | o :: l, D, D', h, r => by
    rcases r with ⟨a, u, p, g, r⟩ | ⟨a, r⟩
    · exact Or.inl ⟨a, ho_use_mono h u, p, g, ho_rec_mono hT l _ _ (ho_D_mono o h) r⟩
    · exact Or.inr ⟨a, ho_rec_mono hT l _ _ h r⟩
theorem ho_run_mono (hS : ∀ (s : Int32) (D D' : Nat → Prop), (∀ t, D t → D' t) → S s D → S s D') (hQ : ∀ (D D' : Nat → Prop) (M : Nat → Int32), (∀ t, D t → D' t) → Q D M → Q D' M) : ∀ (l : List ho_Op) (D D' : Nat → Prop) (M : Nat → Int32), (∀ t, D t → D' t) → ho_run pg rt V e code ad Mf S Q l D M → ho_run pg rt V e code ad Mf S Q l D' M
  | [], D, D', M, h, r => hQ D D' M h r
  | o :: l, D, D', M, h, ⟨u, r⟩ => by
    refine ⟨ho_use_mono h u, ?_⟩
    rcases r with ⟨a, b, c, d, f, g, r⟩ | ⟨a, b, c, r⟩
    · exact Or.inl ⟨a, b, c, d, f, g, ho_rec_mono (hS _) l _ _ h r⟩
    · exact Or.inr ⟨a, b, c, ho_run_mono hS hQ l _ _ _ (ho_D_mono o h) r⟩
/-! a plain operation's fate does not hang on the memory -/
theorem ho_good_m {M M' : Nat → Int32} {o : ho_Op} (p : ho_plain o) (h : ho_good pg rt V M o) : ho_good pg rt V M' o := by
  refine ⟨h.1, fun n => ?_⟩
  have := h.2 n
  unfold ho_eff at this ⊢
  rw [if_neg p.1] at this ⊢
  exact this
theorem ho_mem_p {M : Nat → Int32} {o : ho_Op} (p : oq_k o ≠ 10) : ho_mem V M o = M := if_neg p
/-! a load rises over a plain operation -/
theorem ho_rec_swap {M : Nat → Int32} {T : (Nat → Prop) → Prop} {N L : ho_Op} {l : List ho_Op} {D : Nat → Prop} (hL : ¬ oq_s L < 0) (r : ho_rec pg rt V e M T (N :: L :: l) D) : ho_rec pg rt V e M T (L :: N :: l) D := by
  have nL : ¬ (oq_s L < 0 ∧ oq_g L < e) := fun z => hL z.1
  refine Or.inr ⟨nL, ?_⟩
  rcases r with ⟨a, u, p, g, r⟩ | ⟨a, r⟩
  · rcases r with ⟨b, _⟩ | ⟨_, r⟩
    · exact absurd b nL
    · exact Or.inl ⟨a, u, p, g, r⟩
  · rcases r with ⟨b, _⟩ | ⟨_, r⟩
    · exact absurd b nL
    · exact Or.inr ⟨a, r⟩
theorem ho_run_swap {N L : ho_Op} {l : List ho_Op} {D : Nat → Prop} {M : Nat → Int32} (hS : ∀ (s : Int32) (D D' : Nat → Prop), (∀ t, D t → D' t) → S s D → S s D') (hQ : ∀ (D D' : Nat → Prop) (M : Nat → Int32), (∀ t, D t → D' t) → Q D M → Q D' M) (hL : ¬ oq_s L < 0) (kL : oq_k L = 9) (sN : oq_s N < 0) (ne : (oq_x L).toNatClampNeg ≠ (oq_r N).toNatClampNeg) (r : ho_run pg rt V e code ad Mf S Q (N :: L :: l) D M) : ho_run pg rt V e code ad Mf S Q (L :: N :: l) D M := by
  obtain ⟨uN, r⟩ := r
  rcases r with ⟨_, b, _⟩ | ⟨gN, gdN, pN, uL, r⟩
  · exact absurd sN b
  have pl := pN sN
  rw [ho_mem_p pl.2] at r
  have uL' : ho_use D L := by
    refine ⟨?_, fun z => absurd kL z⟩
    rcases uL.1 with h | h
    · exact h
    · exact absurd h.2 ne
  have mL : ho_mem V M L = M := ho_mem_p (by rw [kL]; decide)
  refine ⟨uL', ?_⟩
  rcases r with ⟨a, b, c, d, f, g, r⟩ | ⟨a, b, c, r⟩
  · exact Or.inl ⟨a, b, c, d, f, g, Or.inl ⟨⟨sN, c ▸ gN⟩, uN, pl, gdN, r⟩⟩
  · refine Or.inr ⟨a, b, c, ?_⟩
    rw [mL] at r ⊢
    refine ⟨ho_use_mono (fun t ht => Or.inl ht) uN, Or.inr ⟨gN, gdN, pN, ?_⟩⟩
    rw [ho_mem_p pl.2]
    refine ho_run_mono hS hQ l _ _ _ (fun t ht => ?_) r
    rcases ht with (h | h) | h
    · exact Or.inl (Or.inl h)
    · exact Or.inr h
    · exact Or.inl (Or.inr h)
theorem ho_rec_ctx {M : Nat → Int32} {T : (Nat → Prop) → Prop} {l l' : List ho_Op} (h : ∀ D, ho_rec pg rt V e M T l D → ho_rec pg rt V e M T l' D) : ∀ (p : List ho_Op) (D : Nat → Prop), ho_rec pg rt V e M T (p ++ l) D → ho_rec pg rt V e M T (p ++ l') D
  | [], D, r => h D r
  | o :: p, D, r => by
    rcases r with ⟨a, u, q, g, r⟩ | ⟨a, r⟩
    · exact Or.inl ⟨a, u, q, g, ho_rec_ctx h p _ r⟩
    · exact Or.inr ⟨a, ho_rec_ctx h p _ r⟩
theorem ho_run_ctx {l l' : List ho_Op} (hr : ∀ (M : Nat → Int32) (s : Int32) (D : Nat → Prop), ho_rec pg rt V e M (S s) l D → ho_rec pg rt V e M (S s) l' D) (h : ∀ D M, ho_run pg rt V e code ad Mf S Q l D M → ho_run pg rt V e code ad Mf S Q l' D M) : ∀ (p : List ho_Op) (D : Nat → Prop) (M : Nat → Int32), ho_run pg rt V e code ad Mf S Q (p ++ l) D M → ho_run pg rt V e code ad Mf S Q (p ++ l') D M
  | [], D, M, r => h D M r
  | o :: p, D, M, ⟨u, r⟩ => by
    refine ⟨u, ?_⟩
    rcases r with ⟨a, b, c, d, f, g, r⟩ | ⟨a, b, c, r⟩
    · exact Or.inl ⟨a, b, c, d, f, g, ho_rec_ctx (hr _ _) p _ r⟩
    · exact Or.inr ⟨a, b, c, ho_run_ctx hr h p _ _ r⟩
/-! operations that nobody needs go -/
def ho_keep (N : Nat → Int32) (o : ho_Op) : Prop := ¬ oq_s o < 0 ∨ ¬ N (oq_r o).toNatClampNeg = 0
def ho_kb (N : Nat → Int32) (o : ho_Op) : Bool := (! decide (oq_s o < 0)) || (! decide (N (oq_r o).toNatClampNeg = 0))
def ho_nd (N : Nat → Int32) : List ho_Op → Nat → Int32
  | [] => N
  | o :: l => if ho_kb (ho_nd N l) o then upd (upd (upd (ho_nd N l) (oq_x o).toNatClampNeg 1) (oq_y o).toNatClampNeg 1) (oq_z o).toNatClampNeg 1 else ho_nd N l
def ho_kp (N : Nat → Int32) : List ho_Op → List ho_Op
  | [] => []
  | o :: l => if ho_kb (ho_nd N l) o then o :: ho_kp N l else ho_kp N l
theorem ho_kb_t {N : Nat → Int32} {o : ho_Op} (h : ho_keep N o) : ho_kb N o = true := by
  unfold ho_kb
  rcases h with h | h
  · rw [decide_eq_false h]; rfl
  · rw [decide_eq_false h]; simp
theorem ho_kb_f {N : Nat → Int32} {o : ho_Op} (h1 : oq_s o < 0) (h2 : N (oq_r o).toNatClampNeg = 0) : ho_kb N o = false := by
  unfold ho_kb
  rw [decide_eq_true h1, decide_eq_true h2]; rfl
theorem ho_kb_e {N : Nat → Int32} {o : ho_Op} (h : ho_kb N o = false) : oq_s o < 0 ∧ N (oq_r o).toNatClampNeg = 0 := by
  by_cases h1 : oq_s o < 0
  · by_cases h2 : N (oq_r o).toNatClampNeg = 0
    · exact ⟨h1, h2⟩
    · rw [ho_kb_t (Or.inr h2)] at h; exact absurd h (by decide)
  · rw [ho_kb_t (Or.inl h1)] at h; exact absurd h (by decide)
theorem ho_up1 {N : Nat → Int32} {i t : Nat} (h : ¬ N t = 0) : ¬ upd N i 1 t = 0 := by
  unfold upd
  by_cases e : t = i
  · rw [if_pos e]; decide
  · rw [if_neg e]; exact h
theorem ho_up1s {N : Nat → Int32} {i : Nat} : ¬ upd N i 1 i = 0 := by
  unfold upd
  rw [if_pos rfl]; decide
theorem ho_nd_ge {N : Nat → Int32} : ∀ (l : List ho_Op) (t : Nat), ¬ N t = 0 → ¬ ho_nd N l t = 0
  | [], t, h => h
  | o :: l, t, h => by
    have ih := ho_nd_ge l t h
    show ¬ (if ho_kb (ho_nd N l) o then _ else _ : Nat → Int32) t = 0
    by_cases k : ho_kb (ho_nd N l) o = true
    · rw [if_pos k]
      exact ho_up1 (ho_up1 (ho_up1 ih))
    · rw [if_neg k]
      exact ih
def ho_cov (N : Nat → Int32) (T : (Nat → Prop) → Prop) : Prop := ∀ D D' : Nat → Prop, (∀ t, D t → ¬ N t = 0 → D' t) → T D → T D'
theorem ho_rec_drop {N M : Nat → Int32} {T : (Nat → Prop) → Prop} (hT : ho_cov N T) : ∀ (l : List ho_Op) (D D' : Nat → Prop), (∀ t, D t → ¬ ho_nd N l t = 0 → D' t) → ho_rec pg rt V e M T l D → ho_rec pg rt V e M T (ho_kp N l) D'
  | [], D, D', h, r => hT D D' h r
  | o :: l, D, D', h, r => by
    by_cases k : ho_kb (ho_nd N l) o = true
    · have hn : ho_nd N (o :: l) = upd (upd (upd (ho_nd N l) (oq_x o).toNatClampNeg 1) (oq_y o).toNatClampNeg 1) (oq_z o).toNatClampNeg 1 := if_pos k
      have hk : ho_kp N (o :: l) = o :: ho_kp N l := if_pos k
      rw [hn] at h
      rw [hk]
      have h' : ∀ t, D t → ¬ ho_nd N l t = 0 → D' t := fun t a b => h t a (ho_up1 (ho_up1 (ho_up1 b)))
      rcases r with ⟨a, u, p, g, r⟩ | ⟨a, r⟩
      · refine Or.inl ⟨a, ⟨h _ u.1 (ho_up1 (ho_up1 ho_up1s)), fun z => ⟨h _ (u.2 z).1 (ho_up1 ho_up1s), h _ (u.2 z).2 ho_up1s⟩⟩, p, g, ho_rec_drop hT l _ _ (fun t ht hz => ?_) r⟩
        rcases ht with ht | ht
        · exact Or.inl (h' t ht hz)
        · exact Or.inr ht
      · exact Or.inr ⟨a, ho_rec_drop hT l _ _ h' r⟩
    · have hn : ho_nd N (o :: l) = ho_nd N l := if_neg k
      have hk : ho_kp N (o :: l) = ho_kp N l := if_neg k
      rw [hn] at h
      rw [hk]
      have kf := ho_kb_e (Bool.eq_false_iff.mpr k)
      rcases r with ⟨a, u, p, g, r⟩ | ⟨a, r⟩
      · refine ho_rec_drop hT l _ _ (fun t ht hz => ?_) r
        rcases ht with ht | ht
        · exact h t ht hz
        · rw [ht.2] at hz; exact absurd kf.2 hz
      · exact ho_rec_drop hT l _ _ h r
theorem ho_run_drop {N : Nat → Int32} (hQ : ∀ M, ho_cov N (fun D => Q D M)) : ∀ (l : List ho_Op) (D D' : Nat → Prop) (M : Nat → Int32), (∀ o, o ∈ l → ¬ oq_s o < 0 → ho_cov N (S (oq_s o))) → (∀ t, D t → ¬ ho_nd N l t = 0 → D' t) → ho_run pg rt V e code ad Mf S Q l D M → ho_run pg rt V e code ad Mf S Q (ho_kp N l) D' M
  | [], D, D', M, _, h, r => hQ M D D' h r
  | o :: l, D, D', M, hS, h, r => by
    have hS' : ∀ o, o ∈ l → ¬ oq_s o < 0 → ho_cov N (S (oq_s o)) := fun q hq => hS q (List.mem_cons.mpr (Or.inr hq))
    by_cases k : ho_kb (ho_nd N l) o = true
    · have hn : ho_nd N (o :: l) = upd (upd (upd (ho_nd N l) (oq_x o).toNatClampNeg 1) (oq_y o).toNatClampNeg 1) (oq_z o).toNatClampNeg 1 := if_pos k
      have hk : ho_kp N (o :: l) = o :: ho_kp N l := if_pos k
      rw [hn] at h
      rw [hk]
      have h' : ∀ t, D t → ¬ ho_nd N l t = 0 → D' t := fun t a b => h t a (ho_up1 (ho_up1 (ho_up1 b)))
      obtain ⟨u, r⟩ := r
      refine ⟨⟨h _ u.1 (ho_up1 (ho_up1 ho_up1s)), fun z => ⟨h _ (u.2 z).1 (ho_up1 ho_up1s), h _ (u.2 z).2 ho_up1s⟩⟩, ?_⟩
      rcases r with ⟨a, b, c, d, f, g, r⟩ | ⟨a, b, c, r⟩
      · exact Or.inl ⟨a, b, c, d, f, g, ho_rec_drop (hS o List.mem_cons_self b) l _ _ h' r⟩
      · refine Or.inr ⟨a, b, c, ho_run_drop hQ l _ _ _ hS' (fun t ht hz => ?_) r⟩
        rcases ht with ht | ht
        · exact Or.inl (h' t ht hz)
        · exact Or.inr ht
    · have hn : ho_nd N (o :: l) = ho_nd N l := if_neg k
      have hk : ho_kp N (o :: l) = ho_kp N l := if_neg k
      rw [hn] at h
      rw [hk]
      have kf := ho_kb_e (Bool.eq_false_iff.mpr k)
      obtain ⟨u, r⟩ := r
      rcases r with ⟨a, b, _⟩ | ⟨a, b, c, r⟩
      · exact absurd kf.1 b
      · rw [ho_mem_p (c kf.1).2] at r
        refine ho_run_drop hQ l _ _ _ hS' (fun t ht hz => ?_) r
        rcases ht with ht | ht
        · exact h t ht hz
        · rw [ht.2] at hz; exact absurd kf.2 hz
end
end
section
section
/-! how many stores a list has -/
def ho_cnt : List ho_Op → Nat
  | [] => 0
  | o :: l => (if oq_k o = 10 then 1 else 0) + ho_cnt l
theorem ho_cnt_app : ∀ (l l2 : List ho_Op), ho_cnt (l ++ l2) = ho_cnt l + ho_cnt l2
  | [], l2 => (Nat.zero_add _).symm
  | o :: l, l2 => by
    show (if oq_k o = 10 then 1 else 0) + ho_cnt (l ++ l2) = (if oq_k o = 10 then 1 else 0) + ho_cnt l + ho_cnt l2
    rw [ho_cnt_app l l2, Nat.add_assoc]
theorem ho_cnt_1 (o : ho_Op) : ho_cnt [o] ≤ 1 := by
  show (if oq_k o = 10 then 1 else 0) + 0 ≤ 1
  by_cases h : oq_k o = 10
  · rw [if_pos h]; exact Nat.le_refl _
  · rw [if_neg h]; exact Nat.zero_le _
theorem ho_cnt_n {o : ho_Op} (h : oq_k o ≠ 10) : ho_cnt [o] = 0 := by
  show (if oq_k o = 10 then 1 else 0) + 0 = 0
  rw [if_neg h]
theorem ho_cnt_kp (N : Nat → Int32) : ∀ l : List ho_Op, ho_cnt (ho_kp N l) ≤ ho_cnt l
  | [] => Nat.le_refl _
  | o :: l => by
    have ih := ho_cnt_kp N l
    by_cases k : ho_kb (ho_nd N l) o = true
    · have e : ho_kp N (o :: l) = o :: ho_kp N l := if_pos k
      rw [e]
      exact Nat.add_le_add_left ih _
    · have e : ho_kp N (o :: l) = ho_kp N l := if_neg k
      rw [e]
      exact Nat.le_trans ih (Nat.le_add_left _ _)
theorem ho_cnt_sw (p l : List ho_Op) (a b : ho_Op) : ho_cnt (p ++ a :: b :: l) = ho_cnt (p ++ b :: a :: l) := by
  rw [ho_cnt_app, ho_cnt_app]
  show ho_cnt p + ((if oq_k a = 10 then 1 else 0) + ((if oq_k b = 10 then 1 else 0) + ho_cnt l)) = ho_cnt p + ((if oq_k b = 10 then 1 else 0) + ((if oq_k a = 10 then 1 else 0) + ho_cnt l))
  omega
/-! growing lists: what a run of a translated list asks while it is made -/
def ho_all (pg : Int32) (rt V : Nat → Int32) (Q : (Nat → Prop) → (Nat → Int32) → Prop) (l : List ho_Op) (D : Nat → Prop) (M : Nat → Int32) : Prop := ho_run pg rt V 100 0 0 (fun _ => 0) (fun _ _ => False) Q l D M
theorem ho_all_nil {pg : Int32} {rt V : Nat → Int32} {Q : (Nat → Prop) → (Nat → Int32) → Prop} {D : Nat → Prop} {M : Nat → Int32} (h : Q D M) : ho_all pg rt V Q [] D M := h
theorem ho_all_c {pg : Int32} {rt V : Nat → Int32} {Q : (Nat → Prop) → (Nat → Int32) → Prop} {o : ho_Op} {l : List ho_Op} {D : Nat → Prop} {M : Nat → Int32} : ho_all pg rt V Q (o :: l) D M ↔ (ho_use D o ∧ oq_g o < 100 ∧ ho_good pg rt V M o ∧ (oq_s o < 0 → ho_plain o) ∧ ho_all pg rt V Q l (ho_D D o) (ho_mem V M o)) := by
  constructor
  · rintro ⟨u, r⟩
    rcases r with ⟨a, _⟩ | r
    · exact absurd rfl a
    · exact ⟨u, r⟩
  · rintro ⟨u, r⟩
    exact ⟨u, Or.inr r⟩
variable {pg : Int32} {rt V V' : Nat → Int32} {Q Q' : (Nat → Prop) → (Nat → Int32) → Prop}
theorem ho_all_imp (h : ∀ D M, Q D M → Q' D M) : ∀ (l : List ho_Op) (D : Nat → Prop) (M : Nat → Int32), ho_all pg rt V Q l D M → ho_all pg rt V Q' l D M
  | [], D, M, r => h D M r
  | o :: l, D, M, r => by
    obtain ⟨u, a, b, c, r⟩ := ho_all_c.mp r
    exact ho_all_c.mpr ⟨u, a, b, c, ho_all_imp h l _ _ r⟩
theorem ho_all_app {l2 : List ho_Op} (h : ∀ D M, Q D M → ho_all pg rt V Q' l2 D M) : ∀ (l : List ho_Op) (D : Nat → Prop) (M : Nat → Int32), ho_all pg rt V Q l D M → ho_all pg rt V Q' (l ++ l2) D M
  | [], D, M, r => h D M r
  | o :: l, D, M, r => by
    obtain ⟨u, a, b, c, r⟩ := ho_all_c.mp r
    exact ho_all_c.mpr ⟨u, a, b, c, ho_all_app h l _ _ r⟩
theorem ho_all_good : ∀ (l : List ho_Op) (D : Nat → Prop) (M : Nat → Int32), ho_all pg rt V Q l D M → ∀ o, o ∈ l → ∃ M', ho_good pg rt V M' o
  | [], D, M, _, o, ho => by cases ho
  | q :: l, D, M, r, o, ho => by
    obtain ⟨u, a, b, c, r⟩ := ho_all_c.mp r
    rcases List.mem_cons.mp ho with e | e
    · rw [e]; exact ⟨M, b⟩
    · exact ho_all_good l _ _ r o e
def ho_lt (nt : Nat) (o : ho_Op) : Prop := vp_in (oq_x o) nt ∧ vp_in (oq_y o) nt ∧ vp_in (oq_z o) nt ∧ (oq_k o ≠ 10 → vp_in (oq_r o) nt)
theorem vi_lt {x : Int32} {n : Nat} (h : vp_in x n) : x.toNatClampNeg < n := by
  rcases Nat.lt_or_ge x.toNatClampNeg n with a | a
  · exact a
  · exact absurd (Or.inr a) h
theorem vi_mono {x : Int32} {n n' : Nat} (h : vp_in x n) (hn : n ≤ n') : vp_in x n' := by
  intro z
  rcases z with z | z
  · exact h (Or.inl z)
  · exact h (Or.inr (by omega))
theorem vi_nn {x : Int32} {n : Nat} (h : vp_in x n) : ¬ x < 0 := fun z => h (Or.inl z)
theorem vi_inj {x y : Int32} (hx : ¬ x < 0) (hy : ¬ y < 0) (h : x.toNatClampNeg = y.toNatClampNeg) : x = y := by
  obtain ⟨a, ha, rfl⟩ := nI_of hx
  obtain ⟨b, hb, rfl⟩ := nI_of hy
  rw [nI_clamp ha, nI_clamp hb] at h
  rw [h]
theorem ho_val_c {o : ho_Op} (hx : V' (oq_x o).toNatClampNeg = V (oq_x o).toNatClampNeg) (hy : V' (oq_y o).toNatClampNeg = V (oq_y o).toNatClampNeg) (hz : V' (oq_z o).toNatClampNeg = V (oq_z o).toNatClampNeg) : ho_val V' o = ho_val V o := by
  unfold ho_val
  rw [hx, hy, hz]
theorem ho_flt_c {o : ho_Op} (hx : V' (oq_x o).toNatClampNeg = V (oq_x o).toNatClampNeg) (hy : V' (oq_y o).toNatClampNeg = V (oq_y o).toNatClampNeg) : ho_flt pg rt V' o = ho_flt pg rt V o := by
  unfold ho_flt ho_ad
  rw [hx, hy]
theorem ho_eff_c {M : Nat → Int32} {o : ho_Op} (hx : V' (oq_x o).toNatClampNeg = V (oq_x o).toNatClampNeg) (hy : V' (oq_y o).toNatClampNeg = V (oq_y o).toNatClampNeg) (hz : V' (oq_z o).toNatClampNeg = V (oq_z o).toNatClampNeg) : ho_eff V' M o = ho_eff V M o := by
  unfold ho_eff ho_ad
  rw [hx, ho_val_c hx hy hz]
theorem ho_mem_c {M : Nat → Int32} {o : ho_Op} (hx : V' (oq_x o).toNatClampNeg = V (oq_x o).toNatClampNeg) (hy : V' (oq_y o).toNatClampNeg = V (oq_y o).toNatClampNeg) : ho_mem V' M o = ho_mem V M o := by
  unfold ho_mem ho_ad
  rw [hx, hy]
theorem ho_good_c {nt : Nat} {M : Nat → Int32} {o : ho_Op} (hV : ∀ t, t < nt → V' t = V t) (hl : ho_lt nt o) (h : ho_good pg rt V M o) : ho_good pg rt V' M o := by
  have hx := hV _ (vi_lt hl.1)
  have hy := hV _ (vi_lt hl.2.1)
  have hz := hV _ (vi_lt hl.2.2.1)
  refine ⟨by rw [ho_flt_c hx hy]; exact h.1, fun n => ?_⟩
  rw [ho_eff_c hx hy hz, hV _ (vi_lt (hl.2.2.2 n))]
  exact h.2 n
/-! V may be changed beyond the temporaries in use -/
theorem ho_all_V {nt : Nat} (hV : ∀ t, t < nt → V' t = V t) : ∀ (l : List ho_Op) (D : Nat → Prop) (M : Nat → Int32), (∀ o, o ∈ l → ho_lt nt o) → ho_all pg rt V Q l D M → ho_all pg rt V' Q l D M
  | [], D, M, _, r => r
  | o :: l, D, M, hl, r => by
    obtain ⟨u, a, b, c, r⟩ := ho_all_c.mp r
    have h1 := hl o List.mem_cons_self
    refine ho_all_c.mpr ⟨u, a, ho_good_c hV h1 b, c, ?_⟩
    rw [ho_mem_c (hV _ (vi_lt h1.1)) (hV _ (vi_lt h1.2.1))]
    exact ho_all_V hV l _ _ (fun q hq => hl q (List.mem_cons.mpr (Or.inr hq))) r
/-! what stands at the end of a run without a fault -/
def ho_Q (nt : Nat) (M1 : Nat → Int32) : (Nat → Prop) → (Nat → Int32) → Prop := fun D M => (∀ t, t < nt → D t) ∧ M = M1
theorem ho_snoc {nt nt' : Nat} {M1 : Nat → Int32} {l : List ho_Op} {o : ho_Op} {D : Nat → Prop} {M : Nat → Int32} (hV : ∀ t, t < nt → V' t = V t) (hl : ∀ o, o ∈ l → ho_lt nt o) (hx : vp_in (oq_x o) nt) (hy : vp_in (oq_y o) nt) (hz : vp_in (oq_z o) nt) (hg : oq_g o < 100) (gd : ho_good pg rt V' M1 o) (pl : oq_s o < 0 → ho_plain o) (hn : nt' = nt ∨ (nt' = nt + 1 ∧ oq_k o ≠ 10 ∧ (oq_r o).toNatClampNeg = nt)) (r : ho_all pg rt V (ho_Q nt M1) l D M) : ho_all pg rt V' (ho_Q nt' (ho_mem V' M1 o)) (l ++ [o]) D M := by
  refine ho_all_app (Q := ho_Q nt M1) (fun D M q => ?_) l D M (ho_all_V hV l D M hl r)
  obtain ⟨q1, q2⟩ := q
  subst q2
  refine ho_all_c.mpr ⟨⟨q1 _ (vi_lt hx), fun _ => ⟨q1 _ (vi_lt hy), q1 _ (vi_lt hz)⟩⟩, hg, gd, pl, ?_, rfl⟩
  intro t ht
  rcases hn with hn | ⟨h1, h2, h3⟩
  · exact Or.inl (q1 t (by omega))
  · by_cases e : t = nt
    · exact Or.inr ⟨h2, by rw [h3, e]⟩
    · exact Or.inl (q1 t (by omega))
/-! the fault at the end of a list -/
variable {e code ad : Int32} {Mf : Nat → Int32} {S S' : Int32 → (Nat → Prop) → Prop}
theorem ho_all_flt {l2 : List ho_Op} (h : ∀ D M, Q D M → ho_run pg rt V e code ad Mf S Q' l2 D M) : ∀ (l : List ho_Op) (D : Nat → Prop) (M : Nat → Int32), (∀ o, o ∈ l → oq_g o < e) → ho_all pg rt V Q l D M → ho_run pg rt V e code ad Mf S Q' (l ++ l2) D M
  | [], D, M, _, r => h D M r
  | o :: l, D, M, hl, r => by
    obtain ⟨u, a, b, c, r⟩ := ho_all_c.mp r
    exact ⟨u, Or.inr ⟨hl o List.mem_cons_self, b, c, ho_all_flt h l _ _ (fun q hq => hl q (List.mem_cons.mpr (Or.inr hq))) r⟩⟩
theorem ho_rec_skip {M : Nat → Int32} {T : (Nat → Prop) → Prop} : ∀ (l : List ho_Op) (D : Nat → Prop), (∀ o, o ∈ l → ¬ oq_g o < e) → T D → ho_rec pg rt V e M T l D
  | [], D, _, r => r
  | o :: l, D, hl, r => Or.inr ⟨fun z => hl o List.mem_cons_self z.2, ho_rec_skip l D (fun q hq => hl q (List.mem_cons.mpr (Or.inr hq))) r⟩
theorem ho_rec_app {M : Nat → Int32} {T : (Nat → Prop) → Prop} {l2 : List ho_Op} (h2 : ∀ o, o ∈ l2 → ¬ oq_g o < e) : ∀ (l : List ho_Op) (D : Nat → Prop), ho_rec pg rt V e M T l D → ho_rec pg rt V e M T (l ++ l2) D
  | [], D, r => ho_rec_skip l2 D h2 r
  | o :: l, D, r => by
    rcases r with ⟨a, u, p, g, r⟩ | ⟨a, r⟩
    · exact Or.inl ⟨a, u, p, g, ho_rec_app h2 l _ r⟩
    · exact Or.inr ⟨a, ho_rec_app h2 l _ r⟩
theorem ho_rec_S {M : Nat → Int32} {T T' : (Nat → Prop) → Prop} (h : ∀ D, T D → T' D) : ∀ (l : List ho_Op) (D : Nat → Prop), ho_rec pg rt V e M T l D → ho_rec pg rt V e M T' l D
  | [], D, r => h D r
  | o :: l, D, r => by
    rcases r with ⟨a, u, p, g, r⟩ | ⟨a, r⟩
    · exact Or.inl ⟨a, u, p, g, ho_rec_S h l _ r⟩
    · exact Or.inr ⟨a, ho_rec_S h l _ r⟩
theorem ho_run_app {l2 : List ho_Op} (h2 : ∀ o, o ∈ l2 → ¬ oq_g o < e) : ∀ (l : List ho_Op) (D : Nat → Prop) (M : Nat → Int32), (∀ o, o ∈ l → ¬ oq_s o < 0 → ∀ D, S (oq_s o) D → S' (oq_s o) D) → ho_run pg rt V e code ad Mf S (fun _ _ => False) l D M → ho_run pg rt V e code ad Mf S' (fun _ _ => False) (l ++ l2) D M
  | [], D, M, _, r => r.elim
  | o :: l, D, M, hS, ⟨u, r⟩ => by
    refine ⟨u, ?_⟩
    rcases r with ⟨a, b, c, d, f, g, r⟩ | ⟨a, b, c, r⟩
    · exact Or.inl ⟨a, b, c, d, f, g, ho_rec_app h2 l _ (ho_rec_S (hS o List.mem_cons_self b) l _ r)⟩
    · exact Or.inr ⟨a, b, c, ho_run_app h2 l _ _ (fun q hq => hS q (List.mem_cons.mpr (Or.inr hq))) r⟩
end
end
section
section
/-! the translator's state: what stands of it without a run, and what a run of its list means -/
def sn_f (V : Nat → Int32) (k x y z : Int32) : Int32 := if k = 0 then V x.toNatClampNeg else gu_flg k (V x.toNatClampNeg) (V y.toNatClampNeg) (V z.toNatClampNeg)
def sn_ok (Z : Nat → ho_Sn) (ZR V Re : Nat → Int32) (Fe : Int32) (s : Int32) (D : Nat → Prop) : Prop := (∀ i, i < 8 → D (ZR (8 * s.toNatClampNeg + i)).toNatClampNeg ∧ V (ZR (8 * s.toNatClampNeg + i)).toNatClampNeg = Re i) ∧ D (sn_X Z s.toNatClampNeg).toNatClampNeg ∧ D (sn_Y Z s.toNatClampNeg).toNatClampNeg ∧ D (sn_Z Z s.toNatClampNeg).toNatClampNeg ∧ Fe = sn_f V (sn_K Z s.toNatClampNeg) (sn_X Z s.toNatClampNeg) (sn_Y Z s.toNatClampNeg) (sn_Z Z s.toNatClampNeg)
def tr_op (kk s nt sc : Nat) (o : ho_Op) : Prop := ho_lt nt o ∧ (oq_k o = 10 → oq_r o = 31) ∧ ¬ oq_k o < 0 ∧ oq_g o < nI kk ∧ (¬ oq_s o < 0 → ∃ q : Nat, 8 * s ≤ q ∧ q < 8 * s + sc ∧ oq_s o = nI q) ∧ (oq_s o < 0 → ho_plain o)
def tr_Fr (s : Nat) (H0 : Nat → ho_Op) (C0 D0 : Nat → Int32) (Z0 : Nat → ho_Sn) (R0 : Nat → Int32) (H : Nat → ho_Op) (HC SC : Nat → Int32) (Z : Nat → ho_Sn) (ZR : Nat → Int32) : Prop := (∀ j, (j < 16 * s ∨ 16 * s + 16 ≤ j) → H j = H0 j) ∧ (∀ j, j ≠ s → HC j = C0 j) ∧ (∀ j, j ≠ s → SC j = D0 j) ∧ (∀ j, (j < 8 * s ∨ 8 * s + 8 ≤ j) → Z j = Z0 j) ∧ (∀ j, (j < 64 * s ∨ 64 * s + 64 ≤ j) → ZR j = R0 j)
def tr_Sz (s m nt sc : Nat) (HC SC : Nat → Int32) : Prop := HC s = nI m ∧ SC s = nI sc ∧ 9 ≤ nt ∧ nt ≤ 9 + m
def tr_Op (kk s m nt sc : Nat) (H : Nat → ho_Op) : Prop := ∀ o, o ∈ ho_seg H (16 * s) m → tr_op kk s nt sc o
def tr_Hm (nt : Nat) (HO : Nat → Int32) (FX FY FZ : Int32) : Prop := (∀ i, i < 8 → vp_in (HO i) nt) ∧ vp_in FX nt ∧ vp_in FY nt ∧ vp_in FZ nt
def tr_Cn (nt : Nat) (CO NZ : Nat → Int32) : Prop := ∀ t, nt ≤ t → t < 32 → CO t = 0 ∧ NZ t = 0
def tr_Kn (nt kc : Nat) (KB KT : Nat → Int32) : Prop := ∀ j, j < kc → vp_in (KB j) nt ∧ vp_in (KT j) nt
def tr_Sn (s nt sc : Nat) (Z : Nat → ho_Sn) (ZR : Nat → Int32) : Prop := ∀ q, 8 * s ≤ q → q < 8 * s + sc → (∀ i, i < 8 → vp_in (ZR (8 * q + i)) nt) ∧ vp_in (sn_X Z q) nt ∧ vp_in (sn_Y Z q) nt ∧ vp_in (sn_Z Z q) nt
def tr_St (kk s m nt sc kc : Nat) (H0 : Nat → ho_Op) (C0 D0 : Nat → Int32) (Z0 : Nat → ho_Sn) (R0 : Nat → Int32) (H : Nat → ho_Op) (HC SC : Nat → Int32) (Z : Nat → ho_Sn) (ZR HO : Nat → Int32) (FX FY FZ : Int32) (CO NZ KB KT : Nat → Int32) : Prop :=
  tr_Fr s H0 C0 D0 Z0 R0 H HC SC Z ZR ∧ tr_Sz s m nt sc HC SC ∧ tr_Op kk s m nt sc H ∧ tr_Hm nt HO FX FY FZ ∧ tr_Cn nt CO NZ ∧ tr_Kn nt kc KB KT ∧ tr_Sn s nt sc Z ZR
def tr_A (pg : Int32) (rt R : Nat → Int32) (F : Int32) (M : Nat → Int32) (g : gu_G) (V : Nat → Int32) (nt kc : Nat) (l : List ho_Op) (HO : Nat → Int32) (FK FX FY FZ : Int32) (CO CV NZ KB KO KT : Nat → Int32) : Prop :=
  (∀ i, i < 8 → V i = R i) ∧ V 8 = F ∧ ho_all pg rt V (ho_Q nt g.2.2) l (fun t => t < 9) M ∧ (∀ i, i < 8 → g.1 i = V (HO i).toNatClampNeg) ∧ g.2.1 = sn_f V FK FX FY FZ ∧ (∀ t, t < nt → ¬ CO t = 0 → V t = CV t) ∧ (∀ t, t < nt → ¬ NZ t = 0 → ¬ V t = 0) ∧ (∀ j, j < kc → gu_ld pg rt (V (KB j).toNatClampNeg + KO j) = 0 ∧ g.2.2 (V (KB j).toNatClampNeg + KO j).toNatClampNeg = V (KT j).toNatClampNeg)
theorem ho_lt_mono {nt nt' : Nat} {o : ho_Op} (h : nt ≤ nt') (a : ho_lt nt o) : ho_lt nt' o := ⟨vi_mono a.1 h, vi_mono a.2.1 h, vi_mono a.2.2.1 h, fun n => vi_mono (a.2.2.2 n) h⟩
theorem gi_mono {x : Int32} {a b : Nat} (h : x < nI a) (hab : a ≤ b) (hb : b < 2 ^ 31) : x < nI b := by
  rw [Int32.lt_iff_toInt_lt] at h ⊢
  rw [nI_toInt (by omega)] at h
  rw [nI_toInt hb]
  omega
theorem tr_op_mono {kk kk' s nt nt' sc sc' : Nat} {o : ho_Op} (hk : kk ≤ kk') (hk2 : kk' < 100) (hn : nt ≤ nt') (hs : sc ≤ sc') (a : tr_op kk s nt sc o) : tr_op kk' s nt' sc' o := by
  obtain ⟨a1, a2, a3, a4, a5, a6⟩ := a
  refine ⟨ho_lt_mono hn a1, a2, a3, gi_mono a4 hk (by omega), fun z => ?_, a6⟩
  obtain ⟨q, q1, q2, q3⟩ := a5 z
  exact ⟨q, q1, by omega, q3⟩
theorem tr_Hm_mono {nt nt' : Nat} {HO : Nat → Int32} {FX FY FZ : Int32} (h : nt ≤ nt') (a : tr_Hm nt HO FX FY FZ) : tr_Hm nt' HO FX FY FZ := ⟨fun i hi => vi_mono (a.1 i hi) h, vi_mono a.2.1 h, vi_mono a.2.2.1 h, vi_mono a.2.2.2 h⟩
theorem tr_Kn_mono {nt nt' kc : Nat} {KB KT : Nat → Int32} (h : nt ≤ nt') (a : tr_Kn nt kc KB KT) : tr_Kn nt' kc KB KT := fun j hj => ⟨vi_mono (a j hj).1 h, vi_mono (a j hj).2 h⟩
theorem tr_Sn_mono {s nt nt' sc : Nat} {Z : Nat → ho_Sn} {ZR : Nat → Int32} (h : nt ≤ nt') (a : tr_Sn s nt sc Z ZR) : tr_Sn s nt' sc Z ZR := fun q h1 h2 => ⟨fun i hi => vi_mono ((a q h1 h2).1 i hi) h, vi_mono (a q h1 h2).2.1 h, vi_mono (a q h1 h2).2.2.1 h, vi_mono (a q h1 h2).2.2.2 h⟩
theorem tr_Cn_mono {nt nt' : Nat} {CO NZ : Nat → Int32} (h : nt ≤ nt') (a : tr_Cn nt CO NZ) : tr_Cn nt' CO NZ := fun t h1 h2 => a t (by omega) h2
variable {kk s m nt sc kc : Nat} {H0 : Nat → ho_Op} {C0 D0 : Nat → Int32} {Z0 : Nat → ho_Sn} {R0 : Nat → Int32} {H : Nat → ho_Op} {HC SC : Nat → Int32} {Z : Nat → ho_Sn} {ZR HO : Nat → Int32} {FK FX FY FZ : Int32} {CO CV NZ KB KO KT : Nat → Int32}
theorem tr_St_kk {kk' : Nat} (h : tr_St kk s m nt sc kc H0 C0 D0 Z0 R0 H HC SC Z ZR HO FX FY FZ CO NZ KB KT) (hk : kk ≤ kk') (hk2 : kk' < 100) : tr_St kk' s m nt sc kc H0 C0 D0 Z0 R0 H HC SC Z ZR HO FX FY FZ CO NZ KB KT :=
  ⟨h.1, h.2.1, fun o ho => tr_op_mono hk hk2 (Nat.le_refl _) (Nat.le_refl _) (h.2.2.1 o ho), h.2.2.2⟩
theorem ho_seg_put {o : ho_Op} : ho_seg (ho_up H (16 * s + m) o) (16 * s) (m + 1) = ho_seg H (16 * s) m ++ [o] := by
  rw [ho_seg_s, ho_ups]
  congr 1
  exact ho_seg_c m (16 * s) (fun j h1 h2 => ho_upn (by omega))
theorem tr_St_put {o : ho_Op} {nt' : Nat} (h : tr_St kk s m nt sc kc H0 C0 D0 Z0 R0 H HC SC Z ZR HO FX FY FZ CO NZ KB KT) (hm : m < 16) (hkk : kk < 100) (hx : vp_in (oq_x o) nt) (hy : vp_in (oq_y o) nt) (hz : vp_in (oq_z o) nt) (hk0 : ¬ oq_k o < 0) (hg : oq_g o < nI kk) (hsn : ¬ oq_s o < 0 → ∃ q : Nat, 8 * s ≤ q ∧ q < 8 * s + sc ∧ oq_s o = nI q) (hpl : oq_s o < 0 → ho_plain o) (hr : (oq_k o = 10 ∧ oq_r o = 31 ∧ nt' = nt) ∨ (oq_k o ≠ 10 ∧ oq_r o = nI nt ∧ nt' = nt + 1)) : tr_St kk s (m + 1) nt' sc kc H0 C0 D0 Z0 R0 (ho_up H (16 * s + m) o) (upd HC s (nI (m + 1))) SC Z ZR HO FX FY FZ CO NZ KB KT := by
  obtain ⟨h1, ⟨s1, s2, s3, s4⟩, h3, h4, h5, h6, h7⟩ := h
  have hn : nt ≤ nt' := by rcases hr with ⟨_, _, r⟩ | ⟨_, _, r⟩ <;> omega
  have hn2 : nt' ≤ nt + 1 := by rcases hr with ⟨_, _, r⟩ | ⟨_, _, r⟩ <;> omega
  refine ⟨⟨fun j hj => ?_, fun j hj => ?_, h1.2.2⟩, ⟨pk_us, s2, by omega, by omega⟩, ?_, tr_Hm_mono hn h4, tr_Cn_mono hn h5, tr_Kn_mono hn h6, tr_Sn_mono hn h7⟩
  · rw [ho_upn (by omega)]; exact h1.1 j hj
  · rw [pk_un hj]; exact h1.2.1 j hj
  · intro q hq
    rw [ho_seg_put] at hq
    rcases List.mem_append.mp hq with hq | hq
    · exact tr_op_mono (Nat.le_refl _) hkk hn (Nat.le_refl _) (h3 q hq)
    · rw [List.mem_singleton] at hq
      subst hq
      refine ⟨⟨vi_mono hx hn, vi_mono hy hn, vi_mono hz hn, fun n => ?_⟩, fun e => ?_, hk0, hg, hsn, hpl⟩
      · rcases hr with ⟨r, _⟩ | ⟨_, r1, r2⟩
        · exact absurd r n
        · rw [r1, r2]; exact vp_in_nI (by omega) (by omega)
      · rcases hr with ⟨_, r, _⟩ | ⟨r, _⟩
        · exact r
        · exact absurd e r
/-! a snapshot is taken -/
def sn_wr (ZR : Nat → Int32) (q : Nat) (HO : Nat → Int32) (i : Nat) : Nat → Int32 := fun j => if 8 * q ≤ j ∧ j < 8 * q + i then HO (j - 8 * q) else ZR j
theorem sn_wr_at {q i n : Nat} (h : i < n) : sn_wr ZR q HO n (8 * q + i) = HO i := by
  unfold sn_wr
  rw [if_pos (by omega), show 8 * q + i - 8 * q = i by omega]
theorem sn_wr_n {q j n : Nat} (h : j < 8 * q ∨ 8 * q + n ≤ j) : sn_wr ZR q HO n j = ZR j := by
  unfold sn_wr
  rw [if_neg (by omega)]
theorem sn_wr_s {q i : Nat} : upd (sn_wr ZR q HO i) (8 * q + i) (HO i) = sn_wr ZR q HO (i + 1) := by
  funext j
  unfold upd
  by_cases e : j = 8 * q + i
  · rw [if_pos e, e, sn_wr_at (by omega)]
  · rw [if_neg e]
    unfold sn_wr
    by_cases c : 8 * q ≤ j ∧ j < 8 * q + i
    · rw [if_pos c, if_pos (by omega)]
    · rw [if_neg c, if_neg (by omega)]
theorem sn_wr_0 {q : Nat} : sn_wr ZR q HO 0 = ZR := by
  funext j
  exact sn_wr_n (by omega)
theorem tr_St_snap (h : tr_St kk s m nt sc kc H0 C0 D0 Z0 R0 H HC SC Z ZR HO FX FY FZ CO NZ KB KT) (hsc : sc < 8) (hkk : kk < 100) : tr_St kk s m nt (sc + 1) kc H0 C0 D0 Z0 R0 H HC (upd SC s (nI (sc + 1))) (sn_up Z (8 * s + sc) (FK, FX, FY, FZ)) (sn_wr ZR (8 * s + sc) HO 8) HO FX FY FZ CO NZ KB KT := by
  obtain ⟨h1, ⟨s1, s2, s3, s4⟩, h3, h4, h5, h6, h7⟩ := h
  refine ⟨⟨h1.1, h1.2.1, fun j hj => ?_, fun j hj => ?_, fun j hj => ?_⟩, ⟨s1, pk_us, s3, s4⟩, fun o ho => tr_op_mono (Nat.le_refl _) hkk (Nat.le_refl _) (by omega) (h3 o ho), h4, h5, h6, fun q q1 q2 => ?_⟩
  · rw [pk_un hj]; exact h1.2.2.1 j hj
  · rw [sn_upn (by omega)]; exact h1.2.2.2.1 j hj
  · rw [sn_wr_n (by omega)]; exact h1.2.2.2.2 j hj
  · by_cases e : q = 8 * s + sc
    · subst e
      refine ⟨fun i hi => ?_, ?_, ?_, ?_⟩
      · rw [sn_wr_at hi]; exact h4.1 i hi
      · show vp_in (sn_up Z (8 * s + sc) (FK, FX, FY, FZ) (8 * s + sc)).2.1 nt
        rw [sn_ups]; exact h4.2.1
      · show vp_in (sn_up Z (8 * s + sc) (FK, FX, FY, FZ) (8 * s + sc)).2.2.1 nt
        rw [sn_ups]; exact h4.2.2.1
      · show vp_in (sn_up Z (8 * s + sc) (FK, FX, FY, FZ) (8 * s + sc)).2.2.2 nt
        rw [sn_ups]; exact h4.2.2.2
    · have hq := h7 q q1 (by omega)
      refine ⟨fun i hi => ?_, ?_, ?_, ?_⟩
      · rw [sn_wr_n (by omega)]; exact hq.1 i hi
      · show vp_in (sn_up Z (8 * s + sc) (FK, FX, FY, FZ) q).2.1 nt
        rw [sn_upn e]; exact hq.2.1
      · show vp_in (sn_up Z (8 * s + sc) (FK, FX, FY, FZ) q).2.2.1 nt
        rw [sn_upn e]; exact hq.2.2.1
      · show vp_in (sn_up Z (8 * s + sc) (FK, FX, FY, FZ) q).2.2.2 nt
        rw [sn_upn e]; exact hq.2.2.2
/-! what a run means goes on when the list grows -/
variable {pg : Int32} {rt R : Nat → Int32} {F : Int32} {M : Nat → Int32} {g : gu_G} {V V' : Nat → Int32}
theorem sn_f_c {k x y z : Int32} {n : Nat} (hV : ∀ t, t < n → V' t = V t) (hx : vp_in x n) (hy : vp_in y n) (hz : vp_in z n) : sn_f V' k x y z = sn_f V k x y z := by
  unfold sn_f
  rw [hV _ (vi_lt hx), hV _ (vi_lt hy), hV _ (vi_lt hz)]
theorem tr_A_ext {nt' : Nat} {l l' : List ho_Op} (hV : ∀ t, t < nt → V' t = V t) (h9 : 9 ≤ nt) (hm : tr_Hm nt HO FX FY FZ) (hc : tr_Cn nt CO NZ) (hkn : tr_Kn nt kc KB KT) (hn2 : nt' ≤ 32) (ha : ho_all pg rt V' (ho_Q nt' g.2.2) l' (fun t => t < 9) M) (A : tr_A pg rt R F M g V nt kc l HO FK FX FY FZ CO CV NZ KB KO KT) : tr_A pg rt R F M g V' nt' kc l' HO FK FX FY FZ CO CV NZ KB KO KT := by
  obtain ⟨a1, a2, _, a4, a5, a6, a7, a8⟩ := A
  refine ⟨fun i hi => (hV i (by omega)).trans (a1 i hi), (hV 8 (by omega)).trans a2, ha, fun i hi => ?_, ?_, fun t ht hz => ?_, fun t ht hz => ?_, fun j hj => ?_⟩
  · rw [a4 i hi, hV _ (vi_lt (hm.1 i hi))]
  · rw [a5, sn_f_c hV hm.2.1 hm.2.2.1 hm.2.2.2]
  · by_cases e : t < nt
    · rw [hV t e]; exact a6 t e hz
    · exact absurd (hc t (by omega) (by omega)).1 hz
  · by_cases e : t < nt
    · rw [hV t e]; exact a7 t e hz
    · exact absurd (hc t (by omega) (by omega)).2 hz
  · rw [hV _ (vi_lt (hkn j hj).1), hV _ (vi_lt (hkn j hj).2)]
    exact a8 j hj
theorem tr_Op_lt (h : tr_Op kk s m nt sc H) : ∀ o, o ∈ ho_seg H (16 * s) m → ho_lt nt o := fun o ho => (h o ho).1
theorem gi_100 {x : Int32} (h : x < nI kk) (hk : kk < 100) : x < 100 := gi_mono (b := 100) h (by omega) (by omega)
/-- a new operation that is not a store: its value stands in the new temporary -/
theorem tr_A_new {o : ho_Op} (h : tr_St kk s m nt sc kc H0 C0 D0 Z0 R0 H HC SC Z ZR HO FX FY FZ CO NZ KB KT) (hm : m < 16) (hkk : kk < 100) (hx : vp_in (oq_x o) nt) (hy : vp_in (oq_y o) nt) (hz : vp_in (oq_z o) nt) (hg : oq_g o < nI kk) (hk : oq_k o ≠ 10) (hr : oq_r o = nI nt) (hpl : oq_s o < 0 → ho_plain o) (hf : ho_flt pg rt V o = 0) (A : tr_A pg rt R F M g V nt kc (ho_seg H (16 * s) m) HO FK FX FY FZ CO CV NZ KB KO KT) :
    (∀ t, t < nt → upd V nt (ho_eff V g.2.2 o) t = V t) ∧ tr_A pg rt R F M g (upd V nt (ho_eff V g.2.2 o)) (nt + 1) kc (ho_seg (ho_up H (16 * s + m) o) (16 * s) (m + 1)) HO FK FX FY FZ CO CV NZ KB KO KT ∧ upd V nt (ho_eff V g.2.2 o) (oq_r o).toNatClampNeg = ho_eff V g.2.2 o := by
  obtain ⟨h1, ⟨s1, s2, s3, s4⟩, h3, h4, h5, h6, h7⟩ := h
  have hV : ∀ t, t < nt → upd V nt (ho_eff V g.2.2 o) t = V t := fun t ht => pk_un (by omega)
  have er : (oq_r o).toNatClampNeg = nt := by rw [hr]; exact nI_clamp (by omega)
  have ev : upd V nt (ho_eff V g.2.2 o) (oq_r o).toNatClampNeg = ho_eff V g.2.2 o := by rw [er]; exact pk_us
  refine ⟨hV, ?_, ev⟩
  have gx := hV _ (vi_lt hx)
  have gy := hV _ (vi_lt hy)
  have gz := hV _ (vi_lt hz)
  refine tr_A_ext hV s3 h4 h5 h6 (by omega) ?_ A
  rw [ho_seg_put]
  have := ho_snoc (V := V) (V' := upd V nt (ho_eff V g.2.2 o)) (nt := nt) (nt' := nt + 1) (M1 := g.2.2) (o := o) hV (tr_Op_lt h3) hx hy hz (gi_100 hg hkk) ⟨by rw [ho_flt_c gx gy]; exact hf, fun _ => by rw [ev, ho_eff_c gx gy gz]⟩ hpl (Or.inr ⟨rfl, hk, er⟩) A.2.2.1
  rw [ho_mem_p hk] at this
  exact this
/-- an operation that stands already: its value stands in its temporary -/
theorem tr_A_old {o : ho_Op} (hk : oq_k o ≠ 9) (hk2 : oq_k o ≠ 10) (ho : o ∈ ho_seg H (16 * s) m) (A : tr_A pg rt R F M g V nt kc (ho_seg H (16 * s) m) HO FK FX FY FZ CO CV NZ KB KO KT) : V (oq_r o).toNatClampNeg = ho_val V o := by
  obtain ⟨M', gd⟩ := ho_all_good _ _ _ A.2.2.1 o ho
  have := gd.2 hk2
  unfold ho_eff at this
  rw [if_neg hk] at this
  exact this
end
end
section
section
/-! the component's walks: put, share -/
variable {PG FB CT SD FA CN PN SL NT CG FK FX FY FZ KC : Int32} {RG CE RT OO OA OB OC BS BL HC SC ZR TM PA PV HO CO CV NZ NE KB KO KT : Nat → Int32} {H : Nat → ho_Op} {Z : Nat → ho_Sn}
theorem pr_r {post : Int32 → SX → Prop} {r r' : Int32} {u : SX} (e : r = r') (h : post r' u) : post r u := e ▸ h
theorem nu_16 (s m : Nat) : 16 * nI s + nI m = nI (16 * s + m) := (congrArg (fun z => z + nI m) (pk_mul 16 s)).trans (nI_add _ _)
theorem nu_8 (s m : Nat) : 8 * nI s + nI m = nI (8 * s + m) := (congrArg (fun z => z + nI m) (pk_mul 8 s)).trans (nI_add _ _)
theorem xw_put {post : Int32 → SX → Prop} {s m nt : Nat} {k x y z im : Int32} (sn : Int32) (hs : s < 4) (hm : HC s = nI m) (hm2 : m < 16) (hk : ¬ k = 10) (h : post (nI nt) (PG, FB, CT, SD, FA, CN, PN, nI s, nI (nt + 1), CG, FK, FX, FY, FZ, KC, RG, CE, RT, OO, OA, OB, OC, BS, BL, upd HC s (nI (m + 1)), SC, ho_K (ho_up H (16 * s + m) (k, x, y, z, im, nI nt, CG, sn)), ho_X (ho_up H (16 * s + m) (k, x, y, z, im, nI nt, CG, sn)), ho_Y (ho_up H (16 * s + m) (k, x, y, z, im, nI nt, CG, sn)), ho_Z (ho_up H (16 * s + m) (k, x, y, z, im, nI nt, CG, sn)), ho_I (ho_up H (16 * s + m) (k, x, y, z, im, nI nt, CG, sn)), ho_R (ho_up H (16 * s + m) (k, x, y, z, im, nI nt, CG, sn)), ho_G (ho_up H (16 * s + m) (k, x, y, z, im, nI nt, CG, sn)), upd (ho_S H) (16 * s + m) (-1), ZR, sn_K Z, sn_X Z, sn_Y Z, sn_Z Z, TM, PA, PV, HO, CO, CV, NZ, NE, KB, KO, KT)) : wpX_put post (PG, FB, CT, SD, FA, CN, PN, nI s, nI nt, CG, FK, FX, FY, FZ, KC, RG, CE, RT, OO, OA, OB, OC, BS, BL, HC, SC, ho_K H, ho_X H, ho_Y H, ho_Z H, ho_I H, ho_R H, ho_G H, ho_S H, ZR, sn_K Z, sn_X Z, sn_Y Z, sn_Z Z, TM, PA, PV, HO, CO, CV, NZ, NE, KB, KO, KT) k x y z im := by
  have c4 : (nI s).toNatClampNeg = s := nI_clamp (by omega)
  have i4 : vp_in (nI s) 4 := vp_in_nI hs (by omega)
  have e2 : 16 * nI s + HC (nI s).toNatClampNeg = nI (16 * s + m) := by rw [c4, hm]; exact nu_16 s m
  have c64 : (nI (16 * s + m)).toNatClampNeg = 16 * s + m := nI_clamp (by omega)
  have i64 : vp_in (nI (16 * s + m)) 64 := vp_in_nI (by omega) (by omega)
  have eC : upd HC (nI s).toNatClampNeg (HC (nI s).toNatClampNeg + 1) = upd HC s (nI (m + 1)) := by rw [c4, hm, nI_1]
  have eK : upd (ho_K H) (nI (16 * s + m)).toNatClampNeg k = ho_K (ho_up H (16 * s + m) (k, x, y, z, im, nI nt, CG, sn)) := ho_upf oq_k c64 rfl
  have eX : upd (ho_X H) (nI (16 * s + m)).toNatClampNeg x = ho_X (ho_up H (16 * s + m) (k, x, y, z, im, nI nt, CG, sn)) := ho_upf oq_x c64 rfl
  have eY : upd (ho_Y H) (nI (16 * s + m)).toNatClampNeg y = ho_Y (ho_up H (16 * s + m) (k, x, y, z, im, nI nt, CG, sn)) := ho_upf oq_y c64 rfl
  have eZ : upd (ho_Z H) (nI (16 * s + m)).toNatClampNeg z = ho_Z (ho_up H (16 * s + m) (k, x, y, z, im, nI nt, CG, sn)) := ho_upf oq_z c64 rfl
  have eI : upd (ho_I H) (nI (16 * s + m)).toNatClampNeg im = ho_I (ho_up H (16 * s + m) (k, x, y, z, im, nI nt, CG, sn)) := ho_upf oq_i c64 rfl
  have eG : upd (ho_G H) (nI (16 * s + m)).toNatClampNeg CG = ho_G (ho_up H (16 * s + m) (k, x, y, z, im, nI nt, CG, sn)) := ho_upf oq_g c64 rfl
  have eR : upd (ho_R H) (nI (16 * s + m)).toNatClampNeg (nI nt) = ho_R (ho_up H (16 * s + m) (k, x, y, z, im, nI nt, CG, sn)) := ho_upf oq_r c64 rfl
  have eS : upd (ho_S H) (nI (16 * s + m)).toNatClampNeg (-1) = upd (ho_S H) (16 * s + m) (-1) := by rw [c64]
  have eA : ho_R (ho_up H (16 * s + m) (k, x, y, z, im, nI nt, CG, sn)) (nI (16 * s + m)).toNatClampNeg = nI nt := by
    rw [c64]
    show oq_r (ho_up H (16 * s + m) (k, x, y, z, im, nI nt, CG, sn) (16 * s + m)) = nI nt
    rw [ho_ups]
  exact And.intro i4 (nm_r e2 (And.intro i64 (nm_r eK (And.intro i64 (nm_r eX (And.intro i64 (nm_r eY (And.intro i64 (nm_r eZ (And.intro i64 (nm_r eI (And.intro i64 (nm_r eG (And.intro i64 (nm_r eS (br_f hk (And.intro i64 (nm_r eR (br_f hk (nm_r (nI_1 nt) (And.intro i4 (And.intro i4 (nm_r eC (And.intro i64 (pr_r eA h)))))))))))))))))))))))))
theorem xw_putT {post : Int32 → SX → Prop} {s m : Nat} {x y z im : Int32} (sn : Int32) (hs : s < 4) (hm : HC s = nI m) (hm2 : m < 16) (h : post 31 (PG, FB, CT, SD, FA, CN, PN, nI s, NT, CG, FK, FX, FY, FZ, KC, RG, CE, RT, OO, OA, OB, OC, BS, BL, upd HC s (nI (m + 1)), SC, ho_K (ho_up H (16 * s + m) (10, x, y, z, im, 31, CG, sn)), ho_X (ho_up H (16 * s + m) (10, x, y, z, im, 31, CG, sn)), ho_Y (ho_up H (16 * s + m) (10, x, y, z, im, 31, CG, sn)), ho_Z (ho_up H (16 * s + m) (10, x, y, z, im, 31, CG, sn)), ho_I (ho_up H (16 * s + m) (10, x, y, z, im, 31, CG, sn)), ho_R (ho_up H (16 * s + m) (10, x, y, z, im, 31, CG, sn)), ho_G (ho_up H (16 * s + m) (10, x, y, z, im, 31, CG, sn)), upd (ho_S H) (16 * s + m) (-1), ZR, sn_K Z, sn_X Z, sn_Y Z, sn_Z Z, TM, PA, PV, HO, CO, CV, NZ, NE, KB, KO, KT)) : wpX_put post (PG, FB, CT, SD, FA, CN, PN, nI s, NT, CG, FK, FX, FY, FZ, KC, RG, CE, RT, OO, OA, OB, OC, BS, BL, HC, SC, ho_K H, ho_X H, ho_Y H, ho_Z H, ho_I H, ho_R H, ho_G H, ho_S H, ZR, sn_K Z, sn_X Z, sn_Y Z, sn_Z Z, TM, PA, PV, HO, CO, CV, NZ, NE, KB, KO, KT) 10 x y z im := by
  have c4 : (nI s).toNatClampNeg = s := nI_clamp (by omega)
  have i4 : vp_in (nI s) 4 := vp_in_nI hs (by omega)
  have e2 : 16 * nI s + HC (nI s).toNatClampNeg = nI (16 * s + m) := by rw [c4, hm]; exact nu_16 s m
  have c64 : (nI (16 * s + m)).toNatClampNeg = 16 * s + m := nI_clamp (by omega)
  have i64 : vp_in (nI (16 * s + m)) 64 := vp_in_nI (by omega) (by omega)
  have eC : upd HC (nI s).toNatClampNeg (HC (nI s).toNatClampNeg + 1) = upd HC s (nI (m + 1)) := by rw [c4, hm, nI_1]
  have eK : upd (ho_K H) (nI (16 * s + m)).toNatClampNeg 10 = ho_K (ho_up H (16 * s + m) (10, x, y, z, im, 31, CG, sn)) := ho_upf oq_k c64 rfl
  have eX : upd (ho_X H) (nI (16 * s + m)).toNatClampNeg x = ho_X (ho_up H (16 * s + m) (10, x, y, z, im, 31, CG, sn)) := ho_upf oq_x c64 rfl
  have eY : upd (ho_Y H) (nI (16 * s + m)).toNatClampNeg y = ho_Y (ho_up H (16 * s + m) (10, x, y, z, im, 31, CG, sn)) := ho_upf oq_y c64 rfl
  have eZ : upd (ho_Z H) (nI (16 * s + m)).toNatClampNeg z = ho_Z (ho_up H (16 * s + m) (10, x, y, z, im, 31, CG, sn)) := ho_upf oq_z c64 rfl
  have eI : upd (ho_I H) (nI (16 * s + m)).toNatClampNeg im = ho_I (ho_up H (16 * s + m) (10, x, y, z, im, 31, CG, sn)) := ho_upf oq_i c64 rfl
  have eG : upd (ho_G H) (nI (16 * s + m)).toNatClampNeg CG = ho_G (ho_up H (16 * s + m) (10, x, y, z, im, 31, CG, sn)) := ho_upf oq_g c64 rfl
  have eR : upd (ho_R H) (nI (16 * s + m)).toNatClampNeg 31 = ho_R (ho_up H (16 * s + m) (10, x, y, z, im, 31, CG, sn)) := ho_upf oq_r c64 rfl
  have eS : upd (ho_S H) (nI (16 * s + m)).toNatClampNeg (-1) = upd (ho_S H) (16 * s + m) (-1) := by rw [c64]
  have eA : ho_R (ho_up H (16 * s + m) (10, x, y, z, im, 31, CG, sn)) (nI (16 * s + m)).toNatClampNeg = 31 := by
    rw [c64]
    show oq_r (ho_up H (16 * s + m) (10, x, y, z, im, 31, CG, sn) (16 * s + m)) = 31
    rw [ho_ups]
  exact And.intro i4 (nm_r e2 (And.intro i64 (nm_r eK (And.intro i64 (nm_r eX (And.intro i64 (nm_r eY (And.intro i64 (nm_r eZ (And.intro i64 (nm_r eI (And.intro i64 (nm_r eG (And.intro i64 (nm_r eS (br_t rfl (And.intro i64 (nm_r eR (br_t rfl (And.intro i4 (And.intro i4 (nm_r eC (And.intro i64 (pr_r eA h))))))))))))))))))))))))
theorem ho_snS {k x y z im r g sn : Int32} {i : Nat} : upd (upd (ho_S H) i (-1)) i sn = ho_S (ho_up H i (k, x, y, z, im, r, g, sn)) := by
  funext j
  show (if j = i then sn else (if j = i then -1 else oq_s (H j))) = oq_s (if j = i then (k, x, y, z, im, r, g, sn) else H j)
  by_cases e : j = i
  · rw [if_pos e, if_pos e]
  · rw [if_neg e, if_neg e, if_neg e]
theorem ho_snS1 {k x y z im r g : Int32} {i : Nat} : upd (ho_S H) i (-1) = ho_S (ho_up H i (k, x, y, z, im, r, g, -1)) := ho_upf (i := i) (o := (k, x, y, z, im, r, g, -1)) oq_s rfl rfl
theorem xw_share13 {post : Int32 → SX → Prop} {s m nt : Nat} {k x y z im : Int32} (hs : s < 4) (hm : HC s = nI m) (hm2 : m < 16) (hk : ¬ k = 10)
    (h1 : ∀ j, j < m → oq_k (H (16 * s + j)) = k → oq_x (H (16 * s + j)) = x → oq_y (H (16 * s + j)) = y → oq_z (H (16 * s + j)) = z → oq_i (H (16 * s + j)) = im → post (oq_r (H (16 * s + j))) (PG, FB, CT, SD, FA, CN, PN, nI s, nI nt, CG, FK, FX, FY, FZ, KC, RG, CE, RT, OO, OA, OB, OC, BS, BL, HC, SC, ho_K H, ho_X H, ho_Y H, ho_Z H, ho_I H, ho_R H, ho_G H, ho_S H, ZR, sn_K Z, sn_X Z, sn_Y Z, sn_Z Z, TM, PA, PV, HO, CO, CV, NZ, NE, KB, KO, KT))
    (h2 : post (nI nt) (PG, FB, CT, SD, FA, CN, PN, nI s, nI (nt + 1), CG, FK, FX, FY, FZ, KC, RG, CE, RT, OO, OA, OB, OC, BS, BL, upd HC s (nI (m + 1)), SC, ho_K (ho_up H (16 * s + m) (k, x, y, z, im, nI nt, CG, -1)), ho_X (ho_up H (16 * s + m) (k, x, y, z, im, nI nt, CG, -1)), ho_Y (ho_up H (16 * s + m) (k, x, y, z, im, nI nt, CG, -1)), ho_Z (ho_up H (16 * s + m) (k, x, y, z, im, nI nt, CG, -1)), ho_I (ho_up H (16 * s + m) (k, x, y, z, im, nI nt, CG, -1)), ho_R (ho_up H (16 * s + m) (k, x, y, z, im, nI nt, CG, -1)), ho_G (ho_up H (16 * s + m) (k, x, y, z, im, nI nt, CG, -1)), ho_S (ho_up H (16 * s + m) (k, x, y, z, im, nI nt, CG, -1)), ZR, sn_K Z, sn_X Z, sn_Y Z, sn_Z Z, TM, PA, PV, HO, CO, CV, NZ, NE, KB, KO, KT)) : ∀ d j : Nat, j + d = m → wX_share_13 post k x y z im (nI (16 * s)) PG FB CT SD FA CN PN (nI s) (nI nt) CG FK FX FY FZ KC RG CE RT OO OA OB OC BS BL HC SC (ho_K H) (ho_X H) (ho_Y H) (ho_Z H) (ho_I H) (ho_R H) (ho_G H) (ho_S H) ZR (sn_K Z) (sn_X Z) (sn_Y Z) (sn_Z Z) TM PA PV HO CO CV NZ NE KB KO KT (d + 1) (nI (16 * s + j)) := by
  have c4 : (nI s).toNatClampNeg = s := nI_clamp (by omega)
  have i4 : vp_in (nI s) 4 := vp_in_nI hs (by omega)
  have e2 : nI (16 * s) + HC (nI s).toNatClampNeg = nI (16 * s + m) := by rw [c4, hm]; exact nI_add _ _
  intro d
  induction d with
  | zero =>
    intro j hj
    have hle : nI (16 * s) + HC (nI s).toNatClampNeg ≤ nI (16 * s + j) := by rw [e2]; exact nI_le (by omega) (by omega)
    refine And.intro i4 (br_t hle (xw_put (-1) hs hm hm2 hk ?_))
    rw [ho_snS1 (k := k) (x := x) (y := y) (z := z) (im := im) (r := nI nt) (g := CG)]
    exact h2
  | succ d ih =>
    intro j hj
    have ih' := ih (j + 1) (by omega)
    have hle : ¬ nI (16 * s) + HC (nI s).toNatClampNeg ≤ nI (16 * s + j) := by rw [e2]; exact nI_ge (by omega) (by omega)
    have c64 : (nI (16 * s + j)).toNatClampNeg = 16 * s + j := nI_clamp (by omega)
    have i64 : vp_in (nI (16 * s + j)) 64 := vp_in_nI (by omega) (by omega)
    have t : ∀ f : Nat → Int32, f (nI (16 * s + j)).toNatClampNeg = f (16 * s + j) := fun f => congrArg f c64
    have nx : nI (16 * s + j) + 1 = nI (16 * s + (j + 1)) := nI_1 _
    refine And.intro i4 (br_f hle (And.intro i64 (br_c (fun ek => And.intro i64 (br_c (fun ex => And.intro i64 (br_c (fun ey => br_f (by decide) (And.intro i64 (br_c (fun ez => And.intro i64 (br_c (fun ei => And.intro i64 ?_) (fun _ => nm_r nx ih'))) (fun _ => nm_r nx ih')))) (fun _ => br_t rfl (nm_r nx ih')))) (fun _ => br_t rfl (nm_r nx ih')))) (fun _ => br_t rfl (nm_r nx ih')))))
    exact pr_r (t (ho_R H)) (h1 j (by omega) ((t (ho_K H)).symm.trans ek) ((t (ho_X H)).symm.trans ex) ((t (ho_Y H)).symm.trans ey) ((t (ho_Z H)).symm.trans ez) ((t (ho_I H)).symm.trans ei))
theorem xw_share {post : Int32 → SX → Prop} {s m nt : Nat} {k x y z im : Int32} (hs : s < 4) (hm : HC s = nI m) (hm2 : m < 16) (hk : ¬ k = 10)
    (h1 : ∀ j, j < m → oq_k (H (16 * s + j)) = k → oq_x (H (16 * s + j)) = x → oq_y (H (16 * s + j)) = y → oq_z (H (16 * s + j)) = z → oq_i (H (16 * s + j)) = im → post (oq_r (H (16 * s + j))) (PG, FB, CT, SD, FA, CN, PN, nI s, nI nt, CG, FK, FX, FY, FZ, KC, RG, CE, RT, OO, OA, OB, OC, BS, BL, HC, SC, ho_K H, ho_X H, ho_Y H, ho_Z H, ho_I H, ho_R H, ho_G H, ho_S H, ZR, sn_K Z, sn_X Z, sn_Y Z, sn_Z Z, TM, PA, PV, HO, CO, CV, NZ, NE, KB, KO, KT))
    (h2 : post (nI nt) (PG, FB, CT, SD, FA, CN, PN, nI s, nI (nt + 1), CG, FK, FX, FY, FZ, KC, RG, CE, RT, OO, OA, OB, OC, BS, BL, upd HC s (nI (m + 1)), SC, ho_K (ho_up H (16 * s + m) (k, x, y, z, im, nI nt, CG, -1)), ho_X (ho_up H (16 * s + m) (k, x, y, z, im, nI nt, CG, -1)), ho_Y (ho_up H (16 * s + m) (k, x, y, z, im, nI nt, CG, -1)), ho_Z (ho_up H (16 * s + m) (k, x, y, z, im, nI nt, CG, -1)), ho_I (ho_up H (16 * s + m) (k, x, y, z, im, nI nt, CG, -1)), ho_R (ho_up H (16 * s + m) (k, x, y, z, im, nI nt, CG, -1)), ho_G (ho_up H (16 * s + m) (k, x, y, z, im, nI nt, CG, -1)), ho_S (ho_up H (16 * s + m) (k, x, y, z, im, nI nt, CG, -1)), ZR, sn_K Z, sn_X Z, sn_Y Z, sn_Z Z, TM, PA, PV, HO, CO, CV, NZ, NE, KB, KO, KT)) : wpX_share post (PG, FB, CT, SD, FA, CN, PN, nI s, nI nt, CG, FK, FX, FY, FZ, KC, RG, CE, RT, OO, OA, OB, OC, BS, BL, HC, SC, ho_K H, ho_X H, ho_Y H, ho_Z H, ho_I H, ho_R H, ho_G H, ho_S H, ZR, sn_K Z, sn_X Z, sn_Y Z, sn_Z Z, TM, PA, PV, HO, CO, CV, NZ, NE, KB, KO, KT) k x y z im :=
  nm_r (pk_mul 16 s) ⟨m + 1, xw_share13 hs hm hm2 hk h1 h2 m 0 (Nat.zero_add m)⟩
end
end
section
section
/-! values: what share, constantTemp, twoOperands, shifted give -/
def tr_Out (kk s m nt sc kc : Nat) (H0 : Nat → ho_Op) (C0 D0 : Nat → Int32) (Z0 : Nat → ho_Sn) (R0 : Nat → Int32) (H : Nat → ho_Op) (HC SC : Nat → Int32) (Z : Nat → ho_Sn) (ZR HO : Nat → Int32) (FK FX FY FZ : Int32) (CO CV NZ KB KO KT : Nat → Int32) (CG : Int32) (m' nt' : Nat) (r : Int32) (H' : Nat → ho_Op) (HC' CO' CV' NZ' : Nat → Int32) (f : (Nat → Int32) → Int32) : Prop :=
  tr_St kk s m' nt' sc kc H0 C0 D0 Z0 R0 H' HC' SC Z ZR HO FX FY FZ CO' NZ' KB KT ∧ vp_in r nt' ∧ nt ≤ nt' ∧ m ≤ m' ∧ m' ≤ m + 1 ∧ (∃ l2, ho_seg H' (16 * s) m' = ho_seg H (16 * s) m ++ l2 ∧ (∀ o, o ∈ l2 → oq_g o = CG) ∧ ho_cnt l2 = 0) ∧ ∀ (pg : Int32) (rt R : Nat → Int32) (F : Int32) (M : Nat → Int32) (g : gu_G) (V : Nat → Int32), tr_A pg rt R F M g V nt kc (ho_seg H (16 * s) m) HO FK FX FY FZ CO CV NZ KB KO KT → ∃ V' : Nat → Int32, (∀ t, t < nt → V' t = V t) ∧ tr_A pg rt R F M g V' nt' kc (ho_seg H' (16 * s) m') HO FK FX FY FZ CO' CV' NZ' KB KO KT ∧ V' r.toNatClampNeg = f V
def ho_w (V : Nat → Int32) (k x y z im : Int32) : Int32 := ho_val V (k, x, y, z, im, 0, 0, 0)
variable {PG FB CT SD FA CN PN SL NT CG FK FX FY FZ KC : Int32} {RG CE RT OO OA OB OC BS BL HC SC ZR TM PA PV HO CO CV NZ NE KB KO KT : Nat → Int32} {H : Nat → ho_Op} {Z : Nat → ho_Sn}
variable {kk s m nt sc kc m' nt' : Nat} {H0 H' : Nat → ho_Op} {C0 D0 HC' CO' CV' NZ' : Nat → Int32} {Z0 : Nat → ho_Sn} {R0 : Nat → Int32} {r : Int32} {f f' : (Nat → Int32) → Int32}
theorem tr_Out_f (h : tr_Out kk s m nt sc kc H0 C0 D0 Z0 R0 H HC SC Z ZR HO FK FX FY FZ CO CV NZ KB KO KT CG m' nt' r H' HC' CO' CV' NZ' f) (e : ∀ (pg : Int32) (rt R : Nat → Int32) (F : Int32) (M : Nat → Int32) (g : gu_G) (V : Nat → Int32), tr_A pg rt R F M g V nt kc (ho_seg H (16 * s) m) HO FK FX FY FZ CO CV NZ KB KO KT → f V = f' V) : tr_Out kk s m nt sc kc H0 C0 D0 Z0 R0 H HC SC Z ZR HO FK FX FY FZ CO CV NZ KB KO KT CG m' nt' r H' HC' CO' CV' NZ' f' := by
  obtain ⟨h1, h2, h3, h4, h5, h6, h7⟩ := h
  refine ⟨h1, h2, h3, h4, h5, h6, fun pg rt R F M g V A => ?_⟩
  obtain ⟨V', a, b, c⟩ := h7 pg rt R F M g V A
  exact ⟨V', a, b, c.trans (e pg rt R F M g V A)⟩
theorem tr_Out_id (h : tr_St kk s m nt sc kc H0 C0 D0 Z0 R0 H HC SC Z ZR HO FX FY FZ CO NZ KB KT) (hr : vp_in r nt) : tr_Out kk s m nt sc kc H0 C0 D0 Z0 R0 H HC SC Z ZR HO FK FX FY FZ CO CV NZ KB KO KT CG m nt r H HC CO CV NZ (fun V => V r.toNatClampNeg) :=
  ⟨h, hr, Nat.le_refl _, Nat.le_refl _, by omega, ⟨[], (List.append_nil _).symm, fun o ho => (by cases ho), rfl⟩, fun pg rt R F M g V A => ⟨V, fun _ _ => rfl, A, rfl⟩⟩
theorem tr_share {post : Int32 → SX → Prop} {k x y z im : Int32} (h : tr_St kk s m nt sc kc H0 C0 D0 Z0 R0 H HC SC Z ZR HO FX FY FZ CO NZ KB KT) (hs : s < 4) (hm : m < 16) (hkk : kk < 100) (hcg : CG < nI kk) (hk0 : ¬ k < 0) (hk9 : k ≠ 9) (hk10 : ¬ k = 10) (hx : vp_in x nt) (hy : vp_in y nt) (hz : vp_in z nt) (h7 : k = 7 → ¬ NZ y.toNatClampNeg = 0)
    (K : ∀ (m' nt' : Nat) (r : Int32) (H' : Nat → ho_Op) (HC' : Nat → Int32), tr_Out kk s m nt sc kc H0 C0 D0 Z0 R0 H HC SC Z ZR HO FK FX FY FZ CO CV NZ KB KO KT CG m' nt' r H' HC' CO CV NZ (fun V => ho_w V k x y z im) → post r (PG, FB, CT, SD, FA, CN, PN, nI s, nI nt', CG, FK, FX, FY, FZ, KC, RG, CE, RT, OO, OA, OB, OC, BS, BL, HC', SC, ho_K H', ho_X H', ho_Y H', ho_Z H', ho_I H', ho_R H', ho_G H', ho_S H', ZR, sn_K Z, sn_X Z, sn_Y Z, sn_Z Z, TM, PA, PV, HO, CO, CV, NZ, NE, KB, KO, KT)) : wpX_share post (PG, FB, CT, SD, FA, CN, PN, nI s, nI nt, CG, FK, FX, FY, FZ, KC, RG, CE, RT, OO, OA, OB, OC, BS, BL, HC, SC, ho_K H, ho_X H, ho_Y H, ho_Z H, ho_I H, ho_R H, ho_G H, ho_S H, ZR, sn_K Z, sn_X Z, sn_Y Z, sn_Z Z, TM, PA, PV, HO, CO, CV, NZ, NE, KB, KO, KT) k x y z im := by
  have hsz := h.2.1
  refine xw_share hs hsz.1 hm hk10 (fun j hj e1 e2 e3 e4 e5 => ?_) ?_
  · have ho : H (16 * s + j) ∈ ho_seg H (16 * s) m := ho_seg_i hj
    have hop := h.2.2.1 _ ho
    have n10 : oq_k (H (16 * s + j)) ≠ 10 := by rw [e1]; exact hk10
    have n9 : oq_k (H (16 * s + j)) ≠ 9 := by rw [e1]; exact hk9
    refine K m nt _ H HC (tr_Out_f (tr_Out_id h (hop.1.2.2.2 n10)) (fun pg rt R F M g V A => ?_))
    refine (tr_A_old n9 n10 ho A).trans ?_
    unfold ho_w ho_val
    rw [e1, e2, e3, e4, e5]
  · have st := tr_St_put (o := (k, x, y, z, im, nI nt, CG, -1)) (nt' := nt + 1) h hm hkk hx hy hz hk0 hcg (fun z => absurd (by decide : (-1 : Int32) < 0) z) (fun _ => ⟨hk9, hk10⟩) (Or.inr ⟨hk10, rfl, rfl⟩)
    refine K (m + 1) (nt + 1) (nI nt) _ _ ⟨st, vp_in_nI (by omega) (by have := hsz.2.2.2; omega), by omega, by omega, by omega, ⟨[(k, x, y, z, im, nI nt, CG, -1)], ho_seg_put, fun o ho => ?_, ho_cnt_n hk10⟩, fun pg rt R F M g V A => ?_⟩
    · rw [List.mem_singleton] at ho
      rw [ho]
    · have hf : ho_flt pg rt V (k, x, y, z, im, nI nt, CG, -1) = 0 := by
        unfold ho_flt
        rw [if_neg hk9, if_neg hk10]
        by_cases e7 : k = 7
        · rw [if_pos e7, if_neg (A.2.2.2.2.2.2.1 _ (vi_lt hy) (h7 e7))]
        · rw [if_neg e7]
      obtain ⟨a, b, c⟩ := tr_A_new (o := (k, x, y, z, im, nI nt, CG, -1)) h hm hkk hx hy hz hcg hk10 rfl (fun _ => ⟨hk9, hk10⟩) hf A
      refine ⟨_, a, b, c.trans ?_⟩
      unfold ho_eff
      rw [if_neg hk9]
      rfl
theorem vb_0 : vp_nar .boolean 0 = 0 := by decide
theorem vb_1 : vp_nar .boolean 1 = 1 := by decide
theorem vp0 {n : Nat} (h : 0 < n) (hn : n < 2 ^ 31) : vp_in 0 n := vp_in_nI (n := 0) h hn
theorem tr_Out_const {v b : Int32} (hb : ¬ b = 0 → ¬ v = 0) (h : tr_Out kk s m nt sc kc H0 C0 D0 Z0 R0 H HC SC Z ZR HO FK FX FY FZ CO CV NZ KB KO KT CG m' nt' r H' HC' CO CV NZ (fun V => ho_w V 0 0 0 0 v)) : tr_Out kk s m nt sc kc H0 C0 D0 Z0 R0 H HC SC Z ZR HO FK FX FY FZ CO CV NZ KB KO KT CG m' nt' r H' HC' (upd CO r.toNatClampNeg 1) (upd CV r.toNatClampNeg v) (upd NZ r.toNatClampNeg b) (fun _ => v) := by
  obtain ⟨⟨g1, g2, g3, g4, g5, g6, g7⟩, h2, h3, h4, h5, h6, h7⟩ := h
  have hr := vi_lt h2
  refine ⟨⟨g1, g2, g3, g4, fun t h1 h2 => ?_, g6, g7⟩, h2, h3, h4, h5, h6, fun pg rt R F M g V A => ?_⟩
  · rw [pk_un (by omega), pk_un (by omega)]
    exact g5 t h1 h2
  · obtain ⟨V', a, b', c⟩ := h7 pg rt R F M g V A
    have c' : V' r.toNatClampNeg = v := c
    refine ⟨V', a, ⟨b'.1, b'.2.1, b'.2.2.1, b'.2.2.2.1, b'.2.2.2.2.1, fun t ht hz => ?_, fun t ht hz => ?_, b'.2.2.2.2.2.2.2⟩, c'⟩
    · by_cases e : t = r.toNatClampNeg
      · rw [e, pk_us]; exact c'
      · rw [pk_un e] at hz ⊢
        exact b'.2.2.2.2.2.1 t ht hz
    · by_cases e : t = r.toNatClampNeg
      · rw [e, pk_us] at hz
        rw [e, c']
        exact hb hz
      · rw [pk_un e] at hz
        exact b'.2.2.2.2.2.2.1 t ht hz
theorem tr_const {post : Int32 → SX → Prop} {v : Int32} (h : tr_St kk s m nt sc kc H0 C0 D0 Z0 R0 H HC SC Z ZR HO FX FY FZ CO NZ KB KT) (hs : s < 4) (hm : m < 16) (hkk : kk < 100) (hcg : CG < nI kk)
    (K : ∀ (m' nt' : Nat) (r : Int32) (H' : Nat → ho_Op) (HC' CO' CV' NZ' : Nat → Int32), tr_Out kk s m nt sc kc H0 C0 D0 Z0 R0 H HC SC Z ZR HO FK FX FY FZ CO CV NZ KB KO KT CG m' nt' r H' HC' CO' CV' NZ' (fun _ => v) → post r (PG, FB, CT, SD, FA, CN, PN, nI s, nI nt', CG, FK, FX, FY, FZ, KC, RG, CE, RT, OO, OA, OB, OC, BS, BL, HC', SC, ho_K H', ho_X H', ho_Y H', ho_Z H', ho_I H', ho_R H', ho_G H', ho_S H', ZR, sn_K Z, sn_X Z, sn_Y Z, sn_Z Z, TM, PA, PV, HO, CO', CV', NZ', NE, KB, KO, KT)) : wpX_constantTemp post (PG, FB, CT, SD, FA, CN, PN, nI s, nI nt, CG, FK, FX, FY, FZ, KC, RG, CE, RT, OO, OA, OB, OC, BS, BL, HC, SC, ho_K H, ho_X H, ho_Y H, ho_Z H, ho_I H, ho_R H, ho_G H, ho_S H, ZR, sn_K Z, sn_X Z, sn_Y Z, sn_Z Z, TM, PA, PV, HO, CO, CV, NZ, NE, KB, KO, KT) v := by
  have hsz := h.2.1
  unfold tr_Sz at hsz
  have h0 : vp_in 0 nt := vp0 (by omega) (by omega)
  unfold wpX_constantTemp
  dsimp only
  refine tr_share h hs hm hkk hcg (by decide) (by decide) (by decide) h0 h0 h0 (fun e => absurd e (by decide)) (fun m' nt' r H' HC' o => ?_)
  have r32 : vp_in r 32 := vi_mono o.2.1 (by have := o.1.2.1; unfold tr_Sz at this; have := o.2.2.2.2.1; omega)
  have e1 : upd CO r.toNatClampNeg (vp_nar .boolean 1) = upd CO r.toNatClampNeg 1 := by rw [vb_1]
  have e2 : upd NZ r.toNatClampNeg (vp_nar .boolean 0) = upd NZ r.toNatClampNeg 0 := by rw [vb_0]
  have e3 : upd NZ r.toNatClampNeg (vp_nar .boolean 1) = upd NZ r.toNatClampNeg 1 := by rw [vb_1]
  refine And.intro r32 (nm_r e1 (And.intro r32 (nm_e (br_c (fun e => And.intro r32 (nm_r e2 ?_)) (fun e => And.intro r32 (nm_r e3 ?_))))))
  · exact K m' nt' r H' HC' _ _ _ (tr_Out_const (fun z => absurd rfl z) o)
  · exact K m' nt' r H' HC' _ _ _ (tr_Out_const (fun _ => e) o)
theorem ho_w_cmp {V : Nat → Int32} {k x y z : Int32} (h0 : k ≠ 0) (h8 : k ≠ 8) (h11 : k ≠ 11) : ho_w V k x y z 0 = gu_cmp k (V x.toNatClampNeg) (V y.toNatClampNeg) (V z.toNatClampNeg) := by
  unfold ho_w ho_val
  rw [if_neg h0, if_neg h8, if_neg h11]
theorem gu_cmp_comm {k x y z : Int32} (h : k = 1 ∨ k = 3 ∨ k = 4 ∨ k = 6) : gu_cmp k x y z = gu_cmp k y x z := by
  rcases h with rfl | rfl | rfl | rfl
  · exact Int32.add_comm x y
  · exact Int32.and_comm x y
  · exact Int32.xor_comm x y
  · exact Int32.mul_comm x y
theorem tr_two {post : Int32 → SX → Prop} {k x y : Int32} (h : tr_St kk s m nt sc kc H0 C0 D0 Z0 R0 H HC SC Z ZR HO FX FY FZ CO NZ KB KT) (hs : s < 4) (hm : m < 16) (hkk : kk < 100) (hcg : CG < nI kk) (hk : k = 1 ∨ k = 2 ∨ k = 3 ∨ k = 4 ∨ k = 6) (hx : vp_in x nt) (hy : vp_in y nt)
    (K : ∀ (m' nt' : Nat) (r : Int32) (H' : Nat → ho_Op) (HC' CO' CV' NZ' : Nat → Int32), tr_Out kk s m nt sc kc H0 C0 D0 Z0 R0 H HC SC Z ZR HO FK FX FY FZ CO CV NZ KB KO KT CG m' nt' r H' HC' CO' CV' NZ' (fun V => gu_cmp k (V x.toNatClampNeg) (V y.toNatClampNeg) 0) → post r (PG, FB, CT, SD, FA, CN, PN, nI s, nI nt', CG, FK, FX, FY, FZ, KC, RG, CE, RT, OO, OA, OB, OC, BS, BL, HC', SC, ho_K H', ho_X H', ho_Y H', ho_Z H', ho_I H', ho_R H', ho_G H', ho_S H', ZR, sn_K Z, sn_X Z, sn_Y Z, sn_Z Z, TM, PA, PV, HO, CO', CV', NZ', NE, KB, KO, KT)) : wpX_twoOperands post (PG, FB, CT, SD, FA, CN, PN, nI s, nI nt, CG, FK, FX, FY, FZ, KC, RG, CE, RT, OO, OA, OB, OC, BS, BL, HC, SC, ho_K H, ho_X H, ho_Y H, ho_Z H, ho_I H, ho_R H, ho_G H, ho_S H, ZR, sn_K Z, sn_X Z, sn_Y Z, sn_Z Z, TM, PA, PV, HO, CO, CV, NZ, NE, KB, KO, KT) k x y := by
  have hsz := h.2.1
  have hnt : nt ≤ 32 := by unfold tr_Sz at hsz; omega
  have h0 : vp_in 0 nt := vp0 (by unfold tr_Sz at hsz; omega) (by omega)
  have x32 := vi_mono hx hnt
  have y32 := vi_mono hy hnt
  have k0 : ¬ k < 0 := by rcases hk with rfl | rfl | rfl | rfl | rfl <;> decide
  have k9 : k ≠ 9 := by rcases hk with rfl | rfl | rfl | rfl | rfl <;> decide
  have k10 : ¬ k = 10 := by rcases hk with rfl | rfl | rfl | rfl | rfl <;> decide
  have k7 : ¬ k = 7 := by rcases hk with rfl | rfl | rfl | rfl | rfl <;> decide
  have k5 : k ≠ 5 := by rcases hk with rfl | rfl | rfl | rfl | rfl <;> decide
  have k00 : k ≠ 0 := by rcases hk with rfl | rfl | rfl | rfl | rfl <;> decide
  have k8 : k ≠ 8 := by rcases hk with rfl | rfl | rfl | rfl | rfl <;> decide
  have k11 : k ≠ 11 := by rcases hk with rfl | rfl | rfl | rfl | rfl <;> decide
  have sh : wX_twoOperands_59 post k x y 0 PG FB CT SD FA CN PN (nI s) (nI nt) CG FK FX FY FZ KC RG CE RT OO OA OB OC BS BL HC SC (ho_K H) (ho_X H) (ho_Y H) (ho_Z H) (ho_I H) (ho_R H) (ho_G H) (ho_S H) ZR (sn_K Z) (sn_X Z) (sn_Y Z) (sn_Z Z) TM PA PV HO CO CV NZ NE KB KO KT := by
    refine br_t rfl (tr_share h hs hm hkk hcg k0 k9 k10 hx hy h0 (fun e => absurd e k7) (fun m' nt' r H' HC' o => ?_))
    refine K m' nt' r H' HC' _ _ _ (tr_Out_f o (fun pg rt R F M g V A => ?_))
    exact (ho_w_cmp k00 k8 k11).trans (gu_cmp_z k5)
  have sw : ¬ k = 2 → wX_twoOperands_59 post k x y 1 PG FB CT SD FA CN PN (nI s) (nI nt) CG FK FX FY FZ KC RG CE RT OO OA OB OC BS BL HC SC (ho_K H) (ho_X H) (ho_Y H) (ho_Z H) (ho_I H) (ho_R H) (ho_G H) (ho_S H) ZR (sn_K Z) (sn_X Z) (sn_Y Z) (sn_Z Z) TM PA PV HO CO CV NZ NE KB KO KT := by
    intro k2
    refine br_f (by decide) (tr_share h hs hm hkk hcg k0 k9 k10 hy hx h0 (fun e => absurd e k7) (fun m' nt' r H' HC' o => ?_))
    refine K m' nt' r H' HC' _ _ _ (tr_Out_f o (fun pg rt R F M g V A => ?_))
    refine ((ho_w_cmp k00 k8 k11).trans (gu_cmp_z k5)).trans (gu_cmp_comm ?_)
    rcases hk with e | e | e | e | e
    · exact Or.inl e
    · exact absurd e k2
    · exact Or.inr (Or.inl e)
    · exact Or.inr (Or.inr (Or.inl e))
    · exact Or.inr (Or.inr (Or.inr e))
  have w44 : wX_twoOperands_44 post k x y PG FB CT SD FA CN PN (nI s) (nI nt) CG FK FX FY FZ KC RG CE RT OO OA OB OC BS BL HC SC (ho_K H) (ho_X H) (ho_Y H) (ho_Z H) (ho_I H) (ho_R H) (ho_G H) (ho_S H) ZR (sn_K Z) (sn_X Z) (sn_Y Z) (sn_Z Z) TM PA PV HO CO CV NZ NE KB KO KT := br_c (fun _ => sh) (fun k2 => br_c (fun _ => sh) (fun _ => sw k2))
  refine And.intro x32 (br_c (fun _ => w44) (fun cx => And.intro y32 (br_c (fun _ => w44) (fun cy => And.intro x32 (And.intro y32 (xw_cmp ?_))))))
  refine tr_const h hs hm hkk hcg (fun m' nt' r H' HC' CO' CV' NZ' o => ?_)
  refine K m' nt' r H' HC' CO' CV' NZ' (tr_Out_f o (fun pg rt R F M g V A => ?_))
  have a6 := A.2.2.2.2.2.1
  rw [a6 _ (vi_lt hx) cx, a6 _ (vi_lt hy) cy]
theorem sh_0 (x : Int32) : x <<< ((0 : Int32) &&& 31) = x := by
  apply Int32.toBitVec_inj.mp
  apply BitVec.eq_of_toNat_eq
  rw [pk_shl x ((0 : Int32) &&& 31) 0 (by decide)]
  rw [Nat.pow_zero, Nat.mul_one]
  exact Nat.mod_eq_of_lt x.toBitVec.isLt
theorem tr_shift {post : Int32 → SX → Prop} {x by_ : Int32} (h : tr_St kk s m nt sc kc H0 C0 D0 Z0 R0 H HC SC Z ZR HO FX FY FZ CO NZ KB KT) (hs : s < 4) (hm : m < 16) (hkk : kk < 100) (hcg : CG < nI kk) (hx : vp_in x nt)
    (K : ∀ (m' nt' : Nat) (r : Int32) (H' : Nat → ho_Op) (HC' CO' CV' NZ' : Nat → Int32), tr_Out kk s m nt sc kc H0 C0 D0 Z0 R0 H HC SC Z ZR HO FK FX FY FZ CO CV NZ KB KO KT CG m' nt' r H' HC' CO' CV' NZ' (fun V => V x.toNatClampNeg <<< (by_ &&& 31)) → post r (PG, FB, CT, SD, FA, CN, PN, nI s, nI nt', CG, FK, FX, FY, FZ, KC, RG, CE, RT, OO, OA, OB, OC, BS, BL, HC', SC, ho_K H', ho_X H', ho_Y H', ho_Z H', ho_I H', ho_R H', ho_G H', ho_S H', ZR, sn_K Z, sn_X Z, sn_Y Z, sn_Z Z, TM, PA, PV, HO, CO', CV', NZ', NE, KB, KO, KT)) : wpX_shifted post (PG, FB, CT, SD, FA, CN, PN, nI s, nI nt, CG, FK, FX, FY, FZ, KC, RG, CE, RT, OO, OA, OB, OC, BS, BL, HC, SC, ho_K H, ho_X H, ho_Y H, ho_Z H, ho_I H, ho_R H, ho_G H, ho_S H, ZR, sn_K Z, sn_X Z, sn_Y Z, sn_Z Z, TM, PA, PV, HO, CO, CV, NZ, NE, KB, KO, KT) x by_ := by
  have hsz := h.2.1
  have hnt : nt ≤ 32 := by unfold tr_Sz at hsz; omega
  have h0 : vp_in 0 nt := vp0 (by unfold tr_Sz at hsz; omega) (by omega)
  have x32 := vi_mono hx hnt
  refine br_c (fun e => ?_) (fun n => And.intro x32 (br_c (fun c0 => ?_) (fun cx => And.intro x32 ?_)))
  · subst e
    exact K m nt x H HC CO CV NZ (tr_Out_f (tr_Out_id h hx) (fun pg rt R F M g V A => (sh_0 _).symm))
  · exact tr_share h hs hm hkk hcg (by decide) (by decide) (by decide) hx h0 h0 (fun e => absurd e (by decide)) (fun m' nt' r H' HC' o => K m' nt' r H' HC' _ _ _ o)
  · refine tr_const h hs hm hkk hcg (fun m' nt' r H' HC' CO' CV' NZ' o => ?_)
    refine K m' nt' r H' HC' CO' CV' NZ' (tr_Out_f o (fun pg rt R F M g V A => ?_))
    rw [A.2.2.2.2.2.1 _ (vi_lt hx) cx]
end
end
section
section
/-! snapshots and the operations that may fault -/
variable {PG FB CT SD FA CN PN SL NT CG FK FX FY FZ KC : Int32} {RG CE RT OO OA OB OC BS BL HC SC ZR TM PA PV HO CO CV NZ NE KB KO KT : Nat → Int32} {H : Nat → ho_Op} {Z : Nat → ho_Sn}
theorem by_id {v : Int32} (h : vp_in v 32) : vp_nar .byte (v.toInt8.toInt32) = v := by
  obtain ⟨j, hj, rfl⟩ := vp_in_of h (by decide)
  rw [pk_vb]
  exact (by decide +kernel : ∀ j, j < 32 → (nI j).toInt8.toInt32 = nI j) j hj
theorem xw_snap20 {post : Int32 → SX → Prop} {s sc q : Nat} (hs : s < 4) (hq : q < 32) (hsc : SC s = nI sc) (hho : ∀ i, i < 8 → vp_in (HO i) 32) (h : post (nI q) (PG, FB, CT, SD, FA, CN, PN, nI s, NT, CG, FK, FX, FY, FZ, KC, RG, CE, RT, OO, OA, OB, OC, BS, BL, HC, upd SC s (nI (sc + 1)), ho_K H, ho_X H, ho_Y H, ho_Z H, ho_I H, ho_R H, ho_G H, ho_S H, sn_wr ZR q HO 8, sn_K (sn_up Z q (FK, FX, FY, FZ)), sn_X (sn_up Z q (FK, FX, FY, FZ)), sn_Y (sn_up Z q (FK, FX, FY, FZ)), sn_Z (sn_up Z q (FK, FX, FY, FZ)), TM, PA, PV, HO, CO, CV, NZ, NE, KB, KO, KT)) : ∀ d i : Nat, i + d = 8 → wX_takeSnapshot_20 post (nI q) PG FB CT SD FA CN PN (nI s) NT CG FK FX FY FZ KC (d + 1) (nI i) RG CE RT OO OA OB OC BS BL HC SC (ho_K H) (ho_X H) (ho_Y H) (ho_Z H) (ho_I H) (ho_R H) (ho_G H) (ho_S H) (sn_wr ZR q HO i) (sn_K Z) (sn_X Z) (sn_Y Z) (sn_Z Z) TM PA PV HO CO CV NZ NE KB KO KT := by
  have c4 : (nI s).toNatClampNeg = s := nI_clamp (by omega)
  have i4 : vp_in (nI s) 4 := vp_in_nI hs (by omega)
  have cq : (nI q).toNatClampNeg = q := nI_clamp (by omega)
  have iq : vp_in (nI q) 32 := vp_in_nI hq (by omega)
  have eC : upd SC (nI s).toNatClampNeg (SC (nI s).toNatClampNeg + 1) = upd SC s (nI (sc + 1)) := by rw [c4, hsc, nI_1]
  have eK : upd (sn_K Z) (nI q).toNatClampNeg FK = sn_K (sn_up Z q (FK, FX, FY, FZ)) := sn_upf (fun z => z.1) cq rfl
  have eX : upd (sn_X Z) (nI q).toNatClampNeg FX = sn_X (sn_up Z q (FK, FX, FY, FZ)) := sn_upf (fun z => z.2.1) cq rfl
  have eY : upd (sn_Y Z) (nI q).toNatClampNeg FY = sn_Y (sn_up Z q (FK, FX, FY, FZ)) := sn_upf (fun z => z.2.2.1) cq rfl
  have eZ : upd (sn_Z Z) (nI q).toNatClampNeg FZ = sn_Z (sn_up Z q (FK, FX, FY, FZ)) := sn_upf (fun z => z.2.2.2) cq rfl
  intro d
  induction d with
  | zero =>
    intro i hi
    have e8 : i = 8 := by omega
    subst e8
    exact br_t (nI_le (a := 8) (b := 8) (by omega) (by omega)) (And.intro iq (nm_r eK (And.intro iq (nm_r eX (And.intro iq (nm_r eY (And.intro iq (nm_r eZ (And.intro i4 (And.intro i4 (nm_r eC h)))))))))))
  | succ d ih =>
    intro i hi
    have ih' := ih (i + 1) (by omega)
    have i8 : vp_in (nI i) 8 := vp_in_nI (by omega) (by omega)
    have c8 : (nI i).toNatClampNeg = i := nI_clamp (by omega)
    have eI : 8 * nI q + nI i = nI (8 * q + i) := nu_8 q i
    have i256 : vp_in (8 * nI q + nI i) 256 := by rw [eI]; exact vp_in_nI (by omega) (by omega)
    have eW : upd (sn_wr ZR q HO i) (8 * nI q + nI i).toNatClampNeg (vp_nar .byte ((HO (nI i).toNatClampNeg).toInt8.toInt32)) = sn_wr ZR q HO (i + 1) := by
      rw [eI, nI_clamp (n := 8 * q + i) (by omega), c8, by_id (hho i (by omega))]
      exact sn_wr_s
    exact br_f (nI_ge (a := i) (b := 8) (by omega) (by omega)) (And.intro i8 (And.intro i256 (nm_r eW (nm_r (nI_1 i) ih'))))
theorem xw_snap {post : Int32 → SX → Prop} {s sc : Nat} (hs : s < 4) (hsc : SC s = nI sc) (hsc8 : sc < 8) (hho : ∀ i, i < 8 → vp_in (HO i) 32) (h : post (nI (8 * s + sc)) (PG, FB, CT, SD, FA, CN, PN, nI s, NT, CG, FK, FX, FY, FZ, KC, RG, CE, RT, OO, OA, OB, OC, BS, BL, HC, upd SC s (nI (sc + 1)), ho_K H, ho_X H, ho_Y H, ho_Z H, ho_I H, ho_R H, ho_G H, ho_S H, sn_wr ZR (8 * s + sc) HO 8, sn_K (sn_up Z (8 * s + sc) (FK, FX, FY, FZ)), sn_X (sn_up Z (8 * s + sc) (FK, FX, FY, FZ)), sn_Y (sn_up Z (8 * s + sc) (FK, FX, FY, FZ)), sn_Z (sn_up Z (8 * s + sc) (FK, FX, FY, FZ)), TM, PA, PV, HO, CO, CV, NZ, NE, KB, KO, KT)) : wpX_takeSnapshot post (PG, FB, CT, SD, FA, CN, PN, nI s, NT, CG, FK, FX, FY, FZ, KC, RG, CE, RT, OO, OA, OB, OC, BS, BL, HC, SC, ho_K H, ho_X H, ho_Y H, ho_Z H, ho_I H, ho_R H, ho_G H, ho_S H, ZR, sn_K Z, sn_X Z, sn_Y Z, sn_Z Z, TM, PA, PV, HO, CO, CV, NZ, NE, KB, KO, KT) := by
  have c4 : (nI s).toNatClampNeg = s := nI_clamp (by omega)
  have i4 : vp_in (nI s) 4 := vp_in_nI hs (by omega)
  have e : 8 * nI s + SC (nI s).toNatClampNeg = nI (8 * s + sc) := by rw [c4, hsc]; exact nu_8 s sc
  have w := xw_snap20 (q := 8 * s + sc) hs (by omega) hsc hho h 8 0 rfl
  rw [sn_wr_0] at w
  exact And.intro i4 (nm_r e ⟨9, w⟩)
theorem xw_rem {post : SX → Prop} {kc : Nat} {b o t : Int32} (hk : kc < 8) (h : post (PG, FB, CT, SD, FA, CN, PN, SL, NT, CG, FK, FX, FY, FZ, nI (kc + 1), RG, CE, RT, OO, OA, OB, OC, BS, BL, HC, SC, ho_K H, ho_X H, ho_Y H, ho_Z H, ho_I H, ho_R H, ho_G H, ho_S H, ZR, sn_K Z, sn_X Z, sn_Y Z, sn_Z Z, TM, PA, PV, HO, CO, CV, NZ, NE, upd KB kc b, upd KO kc o, upd KT kc t)) : wpX_remember post (PG, FB, CT, SD, FA, CN, PN, SL, NT, CG, FK, FX, FY, FZ, nI kc, RG, CE, RT, OO, OA, OB, OC, BS, BL, HC, SC, ho_K H, ho_X H, ho_Y H, ho_Z H, ho_I H, ho_R H, ho_G H, ho_S H, ZR, sn_K Z, sn_X Z, sn_Y Z, sn_Z Z, TM, PA, PV, HO, CO, CV, NZ, NE, KB, KO, KT) b o t := by
  have c8 : (nI kc).toNatClampNeg = kc := nI_clamp (by omega)
  have i8 : vp_in (nI kc) 8 := vp_in_nI hk (by omega)
  have e1 : upd KB (nI kc).toNatClampNeg b = upd KB kc b := by rw [c8]
  have e2 : upd KO (nI kc).toNatClampNeg o = upd KO kc o := by rw [c8]
  have e3 : upd KT (nI kc).toNatClampNeg t = upd KT kc t := by rw [c8]
  exact And.intro i8 (nm_r e1 (And.intro i8 (nm_r e2 (And.intro i8 (nm_r e3 (nm_r (nI_1 kc) h))))))
end
section
/-! one guest instruction: what its translation owes -/
def tr_Nx (d : Nat) (o a b c CG : Int32) (kk s m nt sc kc : Nat) (H0 : Nat → ho_Op) (C0 D0 : Nat → Int32) (Z0 : Nat → ho_Sn) (R0 : Nat → Int32) (H : Nat → ho_Op) (HC SC : Nat → Int32) (Z : Nat → ho_Sn) (ZR HO : Nat → Int32) (FK FX FY FZ : Int32) (CO CV NZ KB KO KT : Nat → Int32) (m' nt' sc' kc' : Nat) (H' : Nat → ho_Op) (HC' SC' : Nat → Int32) (Z' : Nat → ho_Sn) (ZR' HO' : Nat → Int32) (FK' FX' FY' FZ' : Int32) (CO' CV' NZ' KB' KO' KT' : Nat → Int32) : Prop :=
  tr_St kk s m' nt' sc' kc' H0 C0 D0 Z0 R0 H' HC' SC' Z' ZR' HO' FX' FY' FZ' CO' NZ' KB' KT' ∧ nt ≤ nt' ∧ m' ≤ m + d ∧ sc' ≤ sc + 1 ∧ kc' ≤ kc + 1 ∧ (∃ l2, ho_seg H' (16 * s) m' = ho_seg H (16 * s) m ++ l2 ∧ (∀ o, o ∈ l2 → oq_g o = CG) ∧ ho_cnt l2 ≤ 1) ∧ (∀ q, 8 * s ≤ q → q < 8 * s + sc → Z' q = Z q ∧ ∀ i, i < 8 → ZR' (8 * q + i) = ZR (8 * q + i)) ∧
  (∀ (pg : Int32) (rt R : Nat → Int32) (F : Int32) (M : Nat → Int32) (g : gu_G) (V : Nat → Int32), gu_pg pg → tr_A pg rt R F M g V nt kc (ho_seg H (16 * s) m) HO FK FX FY FZ CO CV NZ KB KO KT → gu_flt pg rt o b c g.1 = 0 → ∃ V' : Nat → Int32, tr_A pg rt R F M (gu_nx o a b c g) V' nt' kc' (ho_seg H' (16 * s) m') HO' FK' FX' FY' FZ' CO' CV' NZ' KB' KO' KT') ∧
  (∀ (pg : Int32) (rt R : Nat → Int32) (F : Int32) (M : Nat → Int32) (g : gu_G) (V : Nat → Int32) (code : Int32), tr_A pg rt R F M g V nt kc (ho_seg H (16 * s) m) HO FK FX FY FZ CO CV NZ KB KO KT → code ≠ 0 → gu_flt pg rt o b c g.1 = code → (∀ q, q ∈ ho_seg H (16 * s) m → oq_g q < CG) → ho_run pg rt V CG code (g.1 b.toNatClampNeg + c) g.2.2 (sn_ok Z' ZR' V g.1 g.2.1) (fun _ _ => False) (ho_seg H' (16 * s) m') (fun t => t < 9) M)
variable {d kk s m nt sc kc m' nt' sc' kc' : Nat} {H0 H H' : Nat → ho_Op} {C0 D0 HC SC HC' SC' : Nat → Int32} {Z0 Z Z' : Nat → ho_Sn} {R0 ZR HO ZR' HO' : Nat → Int32} {FK FX FY FZ FK' FX' FY' FZ' CG o a b c : Int32} {CO CV NZ KB KO KT CO' CV' NZ' KB' KO' KT' : Nat → Int32}
variable {pg : Int32} {rt R : Nat → Int32} {F : Int32} {M : Nat → Int32} {g : gu_G} {V V' : Nat → Int32} {f : (Nat → Int32) → Int32} {r code ad : Int32}
/-- a value goes to a register, with new flags -/
theorem tr_Nx_val (h : tr_Out kk s m nt sc kc H0 C0 D0 Z0 R0 H HC SC Z ZR HO FK FX FY FZ CO CV NZ KB KO KT CG m' nt' r H' HC' CO' CV' NZ' f) (ha : vp_in a 8) (hm : tr_Hm nt HO FX' FY' FZ')
    (hA : ∀ (pg : Int32) (rt R : Nat → Int32) (F : Int32) (M : Nat → Int32) (g : gu_G) (V : Nat → Int32), tr_A pg rt R F M g V nt kc (ho_seg H (16 * s) m) HO FK FX FY FZ CO CV NZ KB KO KT → gu_flt pg rt o b c g.1 = 0 ∧ gu_nx o a b c g = (upd g.1 a.toNatClampNeg (f V), sn_f V FK' FX' FY' FZ', g.2.2)) :
    tr_Nx 1 o a b c CG kk s m nt sc kc H0 C0 D0 Z0 R0 H HC SC Z ZR HO FK FX FY FZ CO CV NZ KB KO KT m' nt' sc kc H' HC' SC Z ZR (upd HO a.toNatClampNeg r) FK' FX' FY' FZ' CO' CV' NZ' KB KO KT := by
  obtain ⟨⟨g1, g2, g3, g4, g5, g6, g7⟩, h2, h3, h4, h5, h6, h7⟩ := h
  refine ⟨⟨g1, g2, g3, ⟨fun i hi => ?_, vi_mono hm.2.1 h3, vi_mono hm.2.2.1 h3, vi_mono hm.2.2.2 h3⟩, g5, g6, g7⟩, h3, h5, by omega, by omega, (by obtain ⟨l2, c1, c2, c3⟩ := h6; exact ⟨l2, c1, c2, by omega⟩), fun q _ _ => ⟨rfl, fun _ _ => rfl⟩, fun pg rt R F M g V _ A hf => ?_, fun pg rt R F M g V code A hc hf => ?_⟩
  · by_cases e : i = a.toNatClampNeg
    · rw [e, pk_us]; exact h2
    · rw [pk_un e]; exact g4.1 i hi
  · obtain ⟨V', v1, ⟨a1, a2, a3, a4, a5, a6, a7, a8⟩, v3⟩ := h7 pg rt R F M g V A
    obtain ⟨_, hg⟩ := hA pg rt R F M g V A
    refine ⟨V', ?_⟩
    rw [hg]
    refine ⟨a1, a2, a3, fun i hi => ?_, ?_, a6, a7, a8⟩
    · show upd g.1 a.toNatClampNeg (f V) i = V' (upd HO a.toNatClampNeg r i).toNatClampNeg
      by_cases e : i = a.toNatClampNeg
      · rw [e, pk_us, pk_us]; exact v3.symm
      · rw [pk_un e, pk_un e]; exact a4 i hi
    · show sn_f V FK' FX' FY' FZ' = sn_f V' FK' FX' FY' FZ'
      exact (sn_f_c v1 hm.2.1 hm.2.2.1 hm.2.2.2).symm
  · exact absurd ((hA pg rt R F M g V A).1.symm.trans hf).symm hc
theorem tr_Nx_d {d' : Nat} (h : tr_Nx d o a b c CG kk s m nt sc kc H0 C0 D0 Z0 R0 H HC SC Z ZR HO FK FX FY FZ CO CV NZ KB KO KT m' nt' sc' kc' H' HC' SC' Z' ZR' HO' FK' FX' FY' FZ' CO' CV' NZ' KB' KO' KT') (hd : d ≤ d') : tr_Nx d' o a b c CG kk s m nt sc kc H0 C0 D0 Z0 R0 H HC SC Z ZR HO FK FX FY FZ CO CV NZ KB KO KT m' nt' sc' kc' H' HC' SC' Z' ZR' HO' FK' FX' FY' FZ' CO' CV' NZ' KB' KO' KT' := ⟨h.1, h.2.1, by have := h.2.2.1; omega, h.2.2.2⟩
/-- the fault that a new operation may bring -/
theorem tr_A_flt {q : ho_Op} (h : tr_St kk s m nt sc kc H0 C0 D0 Z0 R0 H HC SC Z ZR HO FX FY FZ CO NZ KB KT) (hx : vp_in (oq_x q) nt) (hy : vp_in (oq_y q) nt) (hz : vp_in (oq_z q) nt) (hq : oq_s q = nI (8 * s + sc)) (hq2 : 8 * s + sc < 2 ^ 31) (hl : ∀ p, p ∈ ho_seg H (16 * s) m → oq_g p < oq_g q) (hc : code ≠ 0) (hf : ho_flt pg rt V q = code) (had : oq_k q ≠ 7 → ho_ad V q = ad) (A : tr_A pg rt R F M g V nt kc (ho_seg H (16 * s) m) HO FK FX FY FZ CO CV NZ KB KO KT) : ho_run pg rt V (oq_g q) code ad g.2.2 (sn_ok (sn_up Z (8 * s + sc) (FK, FX, FY, FZ)) (sn_wr ZR (8 * s + sc) HO 8) V g.1 g.2.1) (fun _ _ => False) (ho_seg H (16 * s) m ++ [q]) (fun t => t < 9) M := by
  obtain ⟨h1, h2, h3, h4, h5, h6, h7⟩ := h
  refine ho_all_flt (Q := ho_Q nt g.2.2) (fun D Mm hQ => ?_) _ _ _ hl A.2.2.1
  obtain ⟨q1, q2⟩ := hQ
  refine ⟨⟨q1 _ (vi_lt hx), fun _ => ⟨q1 _ (vi_lt hy), q1 _ (vi_lt hz)⟩⟩, Or.inl ⟨hc, ?_, rfl, hf, had, q2, ?_⟩⟩
  · rw [hq]; exact nI_pos hq2
  · show sn_ok _ _ V g.1 g.2.1 (oq_s q) D
    have cq : (oq_s q).toNatClampNeg = 8 * s + sc := by rw [hq]; exact nI_clamp hq2
    unfold sn_ok
    rw [cq]
    refine ⟨fun i hi => ?_, ?_, ?_, ?_, ?_⟩
    · rw [sn_wr_at hi]
      exact ⟨q1 _ (vi_lt (h4.1 i hi)), (A.2.2.2.1 i hi).symm⟩
    · show D (sn_up Z (8 * s + sc) (FK, FX, FY, FZ) (8 * s + sc)).2.1.toNatClampNeg
      rw [sn_ups]; exact q1 _ (vi_lt h4.2.1)
    · show D (sn_up Z (8 * s + sc) (FK, FX, FY, FZ) (8 * s + sc)).2.2.1.toNatClampNeg
      rw [sn_ups]; exact q1 _ (vi_lt h4.2.2.1)
    · show D (sn_up Z (8 * s + sc) (FK, FX, FY, FZ) (8 * s + sc)).2.2.2.toNatClampNeg
      rw [sn_ups]; exact q1 _ (vi_lt h4.2.2.2)
    · show g.2.1 = sn_f V (sn_up Z (8 * s + sc) (FK, FX, FY, FZ) (8 * s + sc)).1 (sn_up Z (8 * s + sc) (FK, FX, FY, FZ) (8 * s + sc)).2.1 (sn_up Z (8 * s + sc) (FK, FX, FY, FZ) (8 * s + sc)).2.2.1 (sn_up Z (8 * s + sc) (FK, FX, FY, FZ) (8 * s + sc)).2.2.2
      rw [sn_ups]; exact A.2.2.2.2.1
theorem tr_snkeep : ∀ q, 8 * s ≤ q → q < 8 * s + sc → sn_up Z (8 * s + sc) (FK, FX, FY, FZ) q = Z q ∧ ∀ i, i < 8 → sn_wr ZR (8 * s + sc) HO 8 (8 * q + i) = ZR (8 * q + i) :=
  fun q _ h2 => ⟨sn_upn (by omega), fun i hi => sn_wr_n (by omega)⟩
end
end
section
section
/-! the guest's steps by their codes -/
theorem gx_0 (a b c : Int32) (g : gu_G) : gu_nx 0 a b c g = (upd g.1 a.toNatClampNeg c, g.2.1, g.2.2) := by
  unfold gu_nx
  rw [gR_0, gF_0, gM_0]
theorem gx_5 (a b c : Int32) (g : gu_G) : gu_nx 5 a b c g = (upd g.1 a.toNatClampNeg (gu_cmp 5 (g.1 b.toNatClampNeg) (g.1 (c &&& 7).toNatClampNeg) g.2.1), gu_flg 5 (g.1 b.toNatClampNeg) (g.1 (c &&& 7).toNatClampNeg) g.2.1, g.2.2) := by
  unfold gu_nx
  rw [gR_5, gF_5, gM_5]
theorem gx_6 (a b c : Int32) (g : gu_G) : gu_nx 6 a b c g = (upd g.1 a.toNatClampNeg (gu_cmp 6 (g.1 b.toNatClampNeg) (g.1 (c &&& 7).toNatClampNeg) g.2.1), g.2.1, g.2.2) := by
  unfold gu_nx
  rw [gR_6, gF_6, gM_6]
theorem gx_7 (a b c : Int32) (g : gu_G) : gu_nx 7 a b c g = (upd g.1 a.toNatClampNeg (gu_cmp 7 (g.1 b.toNatClampNeg) (g.1 (c &&& 7).toNatClampNeg) g.2.1), g.2.1, g.2.2) := by
  unfold gu_nx
  rw [gR_7, gF_7, gM_7]
theorem gx_8 (a b c : Int32) (g : gu_G) : gu_nx 8 a b c g = (upd g.1 a.toNatClampNeg (g.1 b.toNatClampNeg <<< ((c &&& 31) &&& 31)), g.2.1, g.2.2) := by
  unfold gu_nx
  rw [gR_8, gF_8, gM_8]
theorem gx_9 (a b c : Int32) (g : gu_G) : gu_nx 9 a b c g = (upd g.1 a.toNatClampNeg (g.2.2 (g.1 b.toNatClampNeg + c).toNatClampNeg), g.2.1, g.2.2) := by
  unfold gu_nx
  rw [gR_9, gF_9, gM_9]
theorem gx_10 (a b c : Int32) (g : gu_G) : gu_nx 10 a b c g = (g.1, g.2.1, upd g.2.2 (g.1 b.toNatClampNeg + c).toNatClampNeg (g.1 a.toNatClampNeg)) := by
  unfold gu_nx
  rw [gR_10, gF_10, gM_10]
theorem gx_11 (a b c : Int32) (g : gu_G) : gu_nx 11 a b c g = (g.1, g.2.1, g.2.2) := by
  unfold gu_nx
  rw [gR_11, gF_11, gM_11]
theorem gx_14 {o : Int32} (h : o = 1 ∨ o = 2 ∨ o = 3 ∨ o = 4) (a b c : Int32) (g : gu_G) : gu_nx o a b c g = (upd g.1 a.toNatClampNeg (gu_cmp o (g.1 b.toNatClampNeg) (g.1 (c &&& 7).toNatClampNeg) g.2.1), gu_flg o (g.1 b.toNatClampNeg) (g.1 (c &&& 7).toNatClampNeg) g.2.1, g.2.2) := by
  unfold gu_nx
  rcases h with rfl | rfl | rfl | rfl
  · rw [gR_1, gF_1, gM_1]
  · rw [gR_2, gF_2, gM_2]
  · rw [gR_3, gF_3, gM_3]
  · rw [gR_4, gF_4, gM_4]
variable {d kk s m nt sc kc m' nt' sc' kc' : Nat} {H0 H H' : Nat → ho_Op} {C0 D0 HC SC HC' SC' : Nat → Int32} {Z0 Z Z' : Nat → ho_Sn} {R0 ZR HO ZR' HO' : Nat → Int32} {FK FX FY FZ FK' FX' FY' FZ' CG o a b c : Int32} {CO CV NZ KB KO KT CO' CV' NZ' KB' KO' KT' : Nat → Int32}
variable {pg : Int32} {rt R : Nat → Int32} {F : Int32} {M : Nat → Int32} {g : gu_G} {V V' : Nat → Int32} {f : (Nat → Int32) → Int32} {r code ad : Int32}
theorem gc_m1 : (-1 : Int32) < 0 := by decide
theorem gc_70 : ¬ (7 : Int32) < 0 := by decide
theorem gc_90 : ¬ (9 : Int32) < 0 := by decide
theorem gc_100 : ¬ (10 : Int32) < 0 := by decide
theorem gc_71 : (7 : Int32) ≠ 10 := by decide
theorem gc_79 : (7 : Int32) ≠ 9 := by decide
theorem gc_7z : (7 : Int32) ≠ 0 := by decide
theorem gc_78 : (7 : Int32) ≠ 8 := by decide
theorem gc_7b : (7 : Int32) ≠ 11 := by decide
theorem gc_75 : (7 : Int32) ≠ 5 := by decide
theorem ho_eff_7 {x y z im r q w : Int32} : ho_eff V M (7, x, y, z, im, r, q, w) = gu_cmp 7 (V x.toNatClampNeg) (V y.toNatClampNeg) (V z.toNatClampNeg) := by
  unfold ho_eff ho_val
  rw [if_neg gc_79, if_neg gc_7z, if_neg gc_78, if_neg gc_7b]
theorem gc_91 : (9 : Int32) ≠ 10 := by decide
/-- a division that may fault -/
theorem tr_Nx_div {x y : Int32} (h : tr_St kk s m nt sc kc H0 C0 D0 Z0 R0 H HC SC Z ZR HO FX FY FZ CO NZ KB KT) (hs : s < 4) (hm : m < 16) (hsc : sc < 8) (hkk : kk < 100) (hcg : CG < nI kk) (ha : vp_in a 8) (hb : vp_in b 8) (ex : x = HO b.toNatClampNeg) (ey : y = HO (c &&& 7).toNatClampNeg) :
    tr_Nx 1 7 a b c CG kk s m nt sc kc H0 C0 D0 Z0 R0 H HC SC Z ZR HO FK FX FY FZ CO CV NZ KB KO KT (m + 1) (nt + 1) (sc + 1) kc (ho_up H (16 * s + m) (7, x, y, 0, 0, nI nt, CG, nI (8 * s + sc))) (upd HC s (nI (m + 1))) (upd SC s (nI (sc + 1))) (sn_up Z (8 * s + sc) (FK, FX, FY, FZ)) (sn_wr ZR (8 * s + sc) HO 8) (upd HO a.toNatClampNeg (nI nt)) FK FX FY FZ CO CV (upd NZ y.toNatClampNeg 1) KB KO KT := by
  have hsz := h.2.1
  unfold tr_Sz at hsz
  have hHm := h.2.2.2.1
  have hx : vp_in x nt := by rw [ex]; exact hHm.1 _ (vi_lt hb)
  have hy : vp_in y nt := by rw [ey]; exact hHm.1 _ (vi_lt (gu_a7 c))
  have h0 : vp_in 0 nt := vp0 (by omega) (by omega)
  have st := tr_St_put (o := (7, x, y, 0, 0, nI nt, CG, nI (8 * s + sc))) (nt' := nt + 1) (tr_St_snap (FK := FK) h hsc hkk) hm hkk hx hy h0 gc_70 hcg (fun _ => ⟨8 * s + sc, by omega, by omega, rfl⟩) (fun z => absurd z (nI_pos (n := 8 * s + sc) (by omega))) (Or.inr ⟨gc_71, rfl, rfl⟩)
  obtain ⟨g1, g2, g3, g4, g5, g6, g7⟩ := st
  refine ⟨⟨g1, g2, g3, ⟨fun i hi => ?_, g4.2⟩, fun t h1 h2 => ?_, g6, g7⟩, by omega, by omega, by omega, by omega, ⟨[_], ho_seg_put, fun q hq => ?_, ho_cnt_1 _⟩, tr_snkeep, fun pg rt R F M g V _ A hf => ?_, fun pg rt R F M g V code A hc hf hl => ?_⟩
  · by_cases e : i = a.toNatClampNeg
    · rw [e, pk_us]; exact vp_in_nI (by omega) (by omega)
    · rw [pk_un e]; exact g4.1 i hi
  · rw [pk_un (by have := vi_lt hy; omega)]
    exact g5 t h1 h2
  · rw [List.mem_singleton] at hq
    rw [hq]
  · have evx : g.1 b.toNatClampNeg = V x.toNatClampNeg := by rw [ex]; exact A.2.2.2.1 _ (vi_lt hb)
    have evy : g.1 (c &&& 7).toNatClampNeg = V y.toNatClampNeg := by rw [ey]; exact A.2.2.2.1 _ (vi_lt (gu_a7 c))
    have vy : ¬ V y.toNatClampNeg = 0 := by
      intro e
      rw [gf_7, evy, if_pos e] at hf
      exact absurd hf (by decide)
    have hf' : ho_flt pg rt V (7, x, y, 0, 0, nI nt, CG, nI (8 * s + sc)) = 0 := if_neg vy
    obtain ⟨v1, ⟨a1, a2, a3, a4, a5, a6, a7, a8⟩, v3⟩ := tr_A_new (o := (7, x, y, 0, 0, nI nt, CG, nI (8 * s + sc))) h hm hkk hx hy h0 hcg gc_71 rfl (fun z => absurd z (nI_pos (n := 8 * s + sc) (by omega))) hf' A
    refine ⟨upd V nt (ho_eff V g.2.2 (7, x, y, 0, 0, nI nt, CG, nI (8 * s + sc))), ?_⟩
    rw [gx_7]
    refine ⟨a1, a2, a3, fun i hi => ?_, a5, a6, fun t ht hz => ?_, a8⟩
    · show upd g.1 a.toNatClampNeg _ i = _
      by_cases e : i = a.toNatClampNeg
      · rw [e, pk_us, pk_us]
        refine Eq.trans ?_ v3.symm
        rw [evx, evy, ho_eff_7]
        exact gu_cmp_z gc_75
      · rw [pk_un e, pk_un e]; exact a4 i hi
    · by_cases e : t = y.toNatClampNeg
      · rw [e, v1 _ (vi_lt hy)]; exact vy
      · rw [pk_un e] at hz
        exact a7 t ht hz
  · have evy : g.1 (c &&& 7).toNatClampNeg = V y.toNatClampNeg := by rw [ey]; exact A.2.2.2.1 _ (vi_lt (gu_a7 c))
    rw [ho_seg_put]
    refine tr_A_flt (q := (7, x, y, 0, 0, nI nt, CG, nI (8 * s + sc))) h hx hy h0 rfl (by omega) hl hc ?_ (fun z => absurd rfl z) A
    rw [gf_7, evy] at hf
    exact hf
/-- a load that is made -/
theorem tr_Nx_ld {x : Int32} (h : tr_St kk s m nt sc kc H0 C0 D0 Z0 R0 H HC SC Z ZR HO FX FY FZ CO NZ KB KT) (hs : s < 4) (hm : m < 16) (hsc : sc < 8) (hkk : kk < 100) (hcg : CG < nI kk) (ha : vp_in a 8) (hb : vp_in b 8) (ex : x = HO b.toNatClampNeg) :
    tr_Nx 1 9 a b c CG kk s m nt sc kc H0 C0 D0 Z0 R0 H HC SC Z ZR HO FK FX FY FZ CO CV NZ KB KO KT (m + 1) (nt + 1) (sc + 1) (kc + 1) (ho_up H (16 * s + m) (9, x, 0, 0, c, nI nt, CG, nI (8 * s + sc))) (upd HC s (nI (m + 1))) (upd SC s (nI (sc + 1))) (sn_up Z (8 * s + sc) (FK, FX, FY, FZ)) (sn_wr ZR (8 * s + sc) HO 8) (upd HO a.toNatClampNeg (nI nt)) FK FX FY FZ CO CV NZ (upd KB kc x) (upd KO kc c) (upd KT kc (nI nt)) := by
  have hsz := h.2.1
  unfold tr_Sz at hsz
  have hHm := h.2.2.2.1
  have hx : vp_in x nt := by rw [ex]; exact hHm.1 _ (vi_lt hb)
  have h0 : vp_in 0 nt := vp0 (by omega) (by omega)
  have st := tr_St_put (o := (9, x, 0, 0, c, nI nt, CG, nI (8 * s + sc))) (nt' := nt + 1) (tr_St_snap (FK := FK) h hsc hkk) hm hkk hx h0 h0 gc_90 hcg (fun _ => ⟨8 * s + sc, by omega, by omega, rfl⟩) (fun z => absurd z (nI_pos (n := 8 * s + sc) (by omega))) (Or.inr ⟨gc_91, rfl, rfl⟩)
  obtain ⟨g1, g2, g3, g4, g5, g6, g7⟩ := st
  have hn : vp_in (nI nt) (nt + 1) := vp_in_nI (by omega) (by omega)
  refine ⟨⟨g1, g2, g3, ⟨fun i hi => ?_, g4.2⟩, g5, fun j hj => ?_, g7⟩, by omega, by omega, by omega, by omega, ⟨[_], ho_seg_put, fun q hq => ?_, ho_cnt_1 _⟩, tr_snkeep, fun pg rt R F M g V _ A hf => ?_, fun pg rt R F M g V code A hc hf hl => ?_⟩
  · by_cases e : i = a.toNatClampNeg
    · rw [e, pk_us]; exact hn
    · rw [pk_un e]; exact g4.1 i hi
  · by_cases e : j = kc
    · rw [e, pk_us, pk_us]; exact ⟨vi_mono hx (by omega), hn⟩
    · rw [pk_un e, pk_un e]; exact g6 j (by omega)
  · rw [List.mem_singleton] at hq
    rw [hq]
  · have evx : g.1 b.toNatClampNeg = V x.toNatClampNeg := by rw [ex]; exact A.2.2.2.1 _ (vi_lt hb)
    rw [gf_9, evx] at hf
    have hf' : ho_flt pg rt V (9, x, 0, 0, c, nI nt, CG, nI (8 * s + sc)) = 0 := hf
    obtain ⟨v1, ⟨a1, a2, a3, a4, a5, a6, a7, a8⟩, v3⟩ := tr_A_new (o := (9, x, 0, 0, c, nI nt, CG, nI (8 * s + sc))) h hm hkk hx h0 h0 hcg gc_91 rfl (fun z => absurd z (nI_pos (n := 8 * s + sc) (by omega))) hf' A
    refine ⟨upd V nt (ho_eff V g.2.2 (9, x, 0, 0, c, nI nt, CG, nI (8 * s + sc))), ?_⟩
    rw [gx_9]
    refine ⟨a1, a2, a3, fun i hi => ?_, a5, a6, a7, fun j hj => ?_⟩
    · show upd g.1 a.toNatClampNeg _ i = _
      by_cases e : i = a.toNatClampNeg
      · rw [e, pk_us, pk_us]
        refine Eq.trans ?_ v3.symm
        rw [evx]
        rfl
      · rw [pk_un e, pk_un e]; exact a4 i hi
    · by_cases e : j = kc
      · subst e
        rw [pk_us, pk_us, pk_us, v1 _ (vi_lt hx)]
        exact ⟨hf, v3.symm⟩
      · rw [pk_un e, pk_un e, pk_un e]
        exact a8 j (by omega)
  · have evx : g.1 b.toNatClampNeg = V x.toNatClampNeg := by rw [ex]; exact A.2.2.2.1 _ (vi_lt hb)
    rw [ho_seg_put, evx]
    refine tr_A_flt (q := (9, x, 0, 0, c, nI nt, CG, nI (8 * s + sc))) h hx h0 h0 rfl (by omega) hl hc ?_ (fun _ => rfl) A
    rw [gf_9, evx] at hf
    exact hf
/-- the known cells that a store leaves -/
def tr_kept (n k kc : Nat) (x c : Int32) (KB KO KT KB' KO' KT' : Nat → Int32) : Prop := n ≤ k ∧ k ≤ kc ∧ (∀ j, j < n → ∃ i, i < kc ∧ KB' j = KB i ∧ KO' j = KO i ∧ KT' j = KT i ∧ KB i = x ∧ KO i ≠ c) ∧ (∀ j, k ≤ j → KB' j = KB j ∧ KO' j = KO j ∧ KT' j = KT j)
theorem i32_cancel {x y z : Int32} (h : x + y = x + z) : y = z := by
  have e := congrArg (fun t => t - x) h
  rw [Int32.add_comm x y, Int32.add_comm x z, Int32.add_sub_cancel, Int32.add_sub_cancel] at e
  exact e
/-- a store -/
theorem tr_Nx_st {x y : Int32} {n : Nat} {KB1 KO1 KT1 : Nat → Int32} (h : tr_St kk s m nt sc kc H0 C0 D0 Z0 R0 H HC SC Z ZR HO FX FY FZ CO NZ KB KT) (hs : s < 4) (hm : m < 16) (hsc : sc < 8) (hkk : kk < 100) (hcg : CG < nI kk) (ha : vp_in a 8) (hb : vp_in b 8) (ex : x = HO b.toNatClampNeg) (ey : y = HO a.toNatClampNeg) (hk : tr_kept n kc kc x c KB KO KT KB1 KO1 KT1) :
    tr_Nx 1 10 a b c CG kk s m nt sc kc H0 C0 D0 Z0 R0 H HC SC Z ZR HO FK FX FY FZ CO CV NZ KB KO KT (m + 1) nt (sc + 1) (n + 1) (ho_up H (16 * s + m) (10, x, y, 0, c, 31, CG, nI (8 * s + sc))) (upd HC s (nI (m + 1))) (upd SC s (nI (sc + 1))) (sn_up Z (8 * s + sc) (FK, FX, FY, FZ)) (sn_wr ZR (8 * s + sc) HO 8) HO FK FX FY FZ CO CV NZ (upd KB1 n x) (upd KO1 n c) (upd KT1 n y) := by
  have hsz := h.2.1
  unfold tr_Sz at hsz
  have hHm := h.2.2.2.1
  have hx : vp_in x nt := by rw [ex]; exact hHm.1 _ (vi_lt hb)
  have hy : vp_in y nt := by rw [ey]; exact hHm.1 _ (vi_lt ha)
  have h0 : vp_in 0 nt := vp0 (by omega) (by omega)
  have hKn := h.2.2.2.2.2.1
  obtain ⟨k1, _, k2, k3⟩ := hk
  have st := tr_St_put (o := (10, x, y, 0, c, 31, CG, nI (8 * s + sc))) (nt' := nt) (tr_St_snap (FK := FK) h hsc hkk) hm hkk hx hy h0 gc_100 hcg (fun _ => ⟨8 * s + sc, by omega, by omega, rfl⟩) (fun z => absurd z (nI_pos (n := 8 * s + sc) (by omega))) (Or.inl ⟨rfl, rfl, rfl⟩)
  obtain ⟨g1, g2, g3, g4, g5, g6, g7⟩ := st
  refine ⟨⟨g1, g2, g3, g4, g5, fun j hj => ?_, g7⟩, by omega, by omega, by omega, by omega, ⟨[_], ho_seg_put, fun q hq => ?_, ho_cnt_1 _⟩, tr_snkeep, fun pg rt R F M g V hp A hf => ?_, fun pg rt R F M g V code A hc hf hl => ?_⟩
  · by_cases e : j = n
    · rw [e, pk_us, pk_us]; exact ⟨hx, hy⟩
    · rw [pk_un e, pk_un e]
      obtain ⟨i, i1, i2, i3, i4, i5, i6⟩ := k2 j (by omega)
      rw [i2, i4]
      exact hKn i i1
  · rw [List.mem_singleton] at hq
    rw [hq]
  · have evx : g.1 b.toNatClampNeg = V x.toNatClampNeg := by rw [ex]; exact A.2.2.2.1 _ (vi_lt hb)
    have evy : g.1 a.toNatClampNeg = V y.toNatClampNeg := by rw [ey]; exact A.2.2.2.1 _ (vi_lt ha)
    rw [gf_10, evx] at hf
    have hf' : ho_flt pg rt V (10, x, y, 0, c, 31, CG, nI (8 * s + sc)) = 0 := hf
    have hld := gu_sv_ld hf
    have hin := gu_sv_in hp hf
    obtain ⟨a1, a2, a3, a4, a5, a6, a7, a8⟩ := A
    refine ⟨V, ?_⟩
    rw [gx_10, evx, evy]
    refine ⟨a1, a2, ?_, a4, a5, a6, a7, fun j hj => ?_⟩
    · rw [ho_seg_put]
      have := ho_snoc (V := V) (V' := V) (nt := nt) (nt' := nt) (M1 := g.2.2) (o := (10, x, y, 0, c, 31, CG, nI (8 * s + sc))) (fun _ _ => rfl) (tr_Op_lt h.2.2.1) hx hy h0 (gi_100 hcg hkk) ⟨hf', fun z => absurd rfl z⟩ (fun z => absurd z (nI_pos (n := 8 * s + sc) (by omega))) (Or.inl rfl) a3
      exact this
    · show gu_ld pg rt (V (upd KB1 n x j).toNatClampNeg + upd KO1 n c j) = 0 ∧ upd g.2.2 (V x.toNatClampNeg + c).toNatClampNeg (V y.toNatClampNeg) (V (upd KB1 n x j).toNatClampNeg + upd KO1 n c j).toNatClampNeg = V (upd KT1 n y j).toNatClampNeg
      by_cases e : j = n
      · subst e
        rw [pk_us, pk_us, pk_us, pk_us]
        exact ⟨hld, rfl⟩
      · rw [pk_un e, pk_un e, pk_un e]
        obtain ⟨i, i1, i2, i3, i4, i5, i6⟩ := k2 j (by omega)
        rw [i2, i3, i4, i5]
        have q := a8 i i1
        rw [i5] at q
        refine ⟨q.1, ?_⟩
        rw [pk_un]
        · exact q.2
        · intro z
          have := vi_inj (gu_ld_in hp q.1).1 hin.1 z
          exact i6 (i32_cancel this)
  · have evx : g.1 b.toNatClampNeg = V x.toNatClampNeg := by rw [ex]; exact A.2.2.2.1 _ (vi_lt hb)
    rw [ho_seg_put, evx]
    refine tr_A_flt (q := (10, x, y, 0, c, 31, CG, nI (8 * s + sc))) h hx hy h0 rfl (by omega) hl hc ?_ (fun _ => rfl) A
    rw [gf_10, evx] at hf
    exact hf
/-- nothing is made (a jump) -/
theorem tr_Nx_jmp (h : tr_St kk s m nt sc kc H0 C0 D0 Z0 R0 H HC SC Z ZR HO FX FY FZ CO NZ KB KT) : tr_Nx 1 11 a b c CG kk s m nt sc kc H0 C0 D0 Z0 R0 H HC SC Z ZR HO FK FX FY FZ CO CV NZ KB KO KT m nt sc kc H HC SC Z ZR HO FK FX FY FZ CO CV NZ KB KO KT := by
  refine ⟨h, by omega, by omega, by omega, by omega, ⟨[], (List.append_nil _).symm, fun q hq => (by cases hq), Nat.zero_le _⟩, fun q _ _ => ⟨rfl, fun _ _ => rfl⟩, fun pg rt R F M g V _ A hf => ⟨V, ?_⟩, fun pg rt R F M g V code A hc hf => ?_⟩
  · rw [gx_11]; exact A
  · rw [gf_n (by decide) (by decide) (by decide)] at hf
    exact absurd hf.symm hc
end
end
section
section
/-! the walk of one guest instruction's translation -/
variable {PG FB CT SD FA CN PN SL NT CG FK FX FY FZ KC : Int32} {RG CE RT OO OA OB OC BS BL HC SC ZR TM PA PV HO CO CV NZ NE KB KO KT : Nat → Int32} {H : Nat → ho_Op} {Z : Nat → ho_Sn}
variable {kk s m nt sc kc m' nt' : Nat} {H0 H' : Nat → ho_Op} {C0 D0 HC' CO' CV' NZ' : Nat → Int32} {Z0 : Nat → ho_Sn} {R0 : Nat → Int32} {r o a b c : Int32}
theorem tr_div {post : Int32 → SX → Prop} {x y : Int32} (h : tr_St kk s m nt sc kc H0 C0 D0 Z0 R0 H HC SC Z ZR HO FX FY FZ CO NZ KB KT) (hs : s < 4) (hm : m < 16) (hsc : sc < 8) (hkk : kk < 100) (hcg : CG < nI kk) (ha : vp_in a 8) (hb : vp_in b 8) (ex : x = HO b.toNatClampNeg) (ey : y = HO (c &&& 7).toNatClampNeg)
    (K : ∀ (m' nt' sc' : Nat) (r : Int32) (H' : Nat → ho_Op) (HC' SC' : Nat → Int32) (Z' : Nat → ho_Sn) (ZR' CO' CV' NZ' : Nat → Int32), tr_Nx 1 7 a b c CG kk s m nt sc kc H0 C0 D0 Z0 R0 H HC SC Z ZR HO FK FX FY FZ CO CV NZ KB KO KT m' nt' sc' kc H' HC' SC' Z' ZR' (upd HO a.toNatClampNeg r) FK FX FY FZ CO' CV' NZ' KB KO KT → post r (PG, FB, CT, SD, FA, CN, PN, nI s, nI nt', CG, FK, FX, FY, FZ, KC, RG, CE, RT, OO, OA, OB, OC, BS, BL, HC', SC', ho_K H', ho_X H', ho_Y H', ho_Z H', ho_I H', ho_R H', ho_G H', ho_S H', ZR', sn_K Z', sn_X Z', sn_Y Z', sn_Z Z', TM, PA, PV, HO, CO', CV', NZ', NE, KB, KO, KT)) : wpX_division post (PG, FB, CT, SD, FA, CN, PN, nI s, nI nt, CG, FK, FX, FY, FZ, KC, RG, CE, RT, OO, OA, OB, OC, BS, BL, HC, SC, ho_K H, ho_X H, ho_Y H, ho_Z H, ho_I H, ho_R H, ho_G H, ho_S H, ZR, sn_K Z, sn_X Z, sn_Y Z, sn_Z Z, TM, PA, PV, HO, CO, CV, NZ, NE, KB, KO, KT) x y := by
  have hsz := h.2.1
  unfold tr_Sz at hsz
  have hnt : nt ≤ 32 := by omega
  have hHm := h.2.2.2.1
  have hx : vp_in x nt := by rw [ex]; exact hHm.1 _ (vi_lt hb)
  have hy : vp_in y nt := by rw [ey]; exact hHm.1 _ (vi_lt (gu_a7 c))
  have h0 : vp_in 0 nt := vp0 (by omega) (by omega)
  have x32 := vi_mono hx hnt
  have y32 := vi_mono hy hnt
  have key : ∀ (f : (Nat → Int32) → Int32), ¬ NZ y.toNatClampNeg = 0 → (∀ V : Nat → Int32, ∀ (pg : Int32) (rt R : Nat → Int32) (F : Int32) (M : Nat → Int32) (g : gu_G), tr_A pg rt R F M g V nt kc (ho_seg H (16 * s) m) HO FK FX FY FZ CO CV NZ KB KO KT → f V = gu_cmp 7 (V x.toNatClampNeg) (V y.toNatClampNeg) g.2.1) → ∀ (pg : Int32) (rt R : Nat → Int32) (F : Int32) (M : Nat → Int32) (g : gu_G) (V : Nat → Int32), tr_A pg rt R F M g V nt kc (ho_seg H (16 * s) m) HO FK FX FY FZ CO CV NZ KB KO KT → gu_flt pg rt 7 b c g.1 = 0 ∧ gu_nx 7 a b c g = (upd g.1 a.toNatClampNeg (f V), sn_f V FK FX FY FZ, g.2.2) := by
    intro f nz hv pg rt R F M g V A
    have evx : g.1 b.toNatClampNeg = V x.toNatClampNeg := by rw [ex]; exact A.2.2.2.1 _ (vi_lt hb)
    have evy : g.1 (c &&& 7).toNatClampNeg = V y.toNatClampNeg := by rw [ey]; exact A.2.2.2.1 _ (vi_lt (gu_a7 c))
    refine ⟨?_, ?_⟩
    · rw [gf_7, evy, if_neg (A.2.2.2.2.2.2.1 _ (vi_lt hy) nz)]
    · rw [gx_7, evx, evy, hv V pg rt R F M g A, A.2.2.2.2.1]
  have w52 : wX_division_52 post x y PG FB CT SD FA CN PN (nI s) (nI nt) CG FK FX FY FZ KC RG CE RT OO OA OB OC BS BL HC SC (ho_K H) (ho_X H) (ho_Y H) (ho_Z H) (ho_I H) (ho_R H) (ho_G H) (ho_S H) ZR (sn_K Z) (sn_X Z) (sn_Y Z) (sn_Z Z) TM PA PV HO CO CV NZ NE KB KO KT := by
    refine And.intro y32 (br_c (fun nz => ?_) (fun nz => ?_))
    · have c4 : (nI s).toNatClampNeg = s := nI_clamp (by omega)
      have i4 : vp_in (nI s) 4 := vp_in_nI hs (by omega)
      have c64 : (nI (16 * s + m)).toNatClampNeg = 16 * s + m := nI_clamp (by omega)
      have i64 : vp_in (nI (16 * s + m)) 64 := vp_in_nI (by omega) (by omega)
      have ei : 16 * nI s + upd HC s (nI (m + 1)) (nI s).toNatClampNeg - 1 = nI (16 * s + m) := by
        rw [c4, pk_us, nu_16]; exact nI_pred (16 * s + m)
      have i64' : vp_in (16 * nI s + upd HC s (nI (m + 1)) (nI s).toNatClampNeg - 1) 64 := by rw [ei]; exact i64
      have eS : upd (upd (ho_S H) (16 * s + m) (-1)) (16 * nI s + upd HC s (nI (m + 1)) (nI s).toNatClampNeg - 1).toNatClampNeg (nI (8 * s + sc)) = ho_S (ho_up H (16 * s + m) (7, x, y, 0, 0, nI nt, CG, nI (8 * s + sc))) := by
        rw [ei, c64]; exact ho_snS
      have eN : upd NZ y.toNatClampNeg (vp_nar .boolean 1) = upd NZ y.toNatClampNeg 1 := by rw [vb_1]
      refine xw_snap hs hsz.2.1 hsc (fun i hi => vi_mono (hHm.1 i hi) hnt) ?_
      refine xw_put (nI (8 * s + sc)) hs hsz.1 hm (by decide) ?_
      exact And.intro i4 (And.intro i64' (nm_r eS (And.intro y32 (nm_r eN (K _ _ _ _ _ _ _ _ _ _ _ _ (tr_Nx_div h hs hm hsc hkk hcg ha hb ex ey))))))
    · refine tr_share h hs hm hkk hcg (by decide) (by decide) (by decide) hx hy h0 (fun _ => nz) (fun m' nt' r H' HC' o => ?_)
      exact K m' nt' sc r H' HC' SC Z ZR CO CV NZ (tr_Nx_val o ha hHm (key _ nz (fun V pg rt R F M g A => (ho_w_cmp (by decide) (by decide) (by decide)).trans (gu_cmp_z (by decide)))))
  refine And.intro x32 (br_c (fun _ => w52) (fun cx => And.intro y32 (br_c (fun _ => w52) (fun nz => And.intro y32 (br_c (fun _ => w52) (fun cy => And.intro x32 (And.intro y32 (xw_cmp ?_))))))))
  refine tr_const h hs hm hkk hcg (fun m' nt' r H' HC' CO' CV' NZ' o => ?_)
  refine K m' nt' sc r H' HC' SC Z ZR CO' CV' NZ' (tr_Nx_val o ha hHm (key _ nz (fun V pg rt R F M g A => ?_)))
  have a6 := A.2.2.2.2.2.1
  rw [a6 _ (vi_lt hx) cx, a6 _ (vi_lt hy) cy]
  exact gu_cmp_z (by decide)
theorem tr_load2 {post : Int32 → SX → Prop} {x : Int32} (h : tr_St kk s m nt sc kc H0 C0 D0 Z0 R0 H HC SC Z ZR HO FX FY FZ CO NZ KB KT) (hs : s < 4) (hm : m < 16) (hsc : sc < 8) (hkc : kc < 8) (hkk : kk < 100) (hcg : CG < nI kk) (ha : vp_in a 8) (hb : vp_in b 8) (ex : x = HO b.toNatClampNeg)
    (K : ∀ (m' nt' sc' kc' : Nat) (r : Int32) (H' : Nat → ho_Op) (HC' SC' : Nat → Int32) (Z' : Nat → ho_Sn) (ZR' KB' KO' KT' : Nat → Int32), tr_Nx 1 9 a b c CG kk s m nt sc kc H0 C0 D0 Z0 R0 H HC SC Z ZR HO FK FX FY FZ CO CV NZ KB KO KT m' nt' sc' kc' H' HC' SC' Z' ZR' (upd HO a.toNatClampNeg r) FK FX FY FZ CO CV NZ KB' KO' KT' → post r (PG, FB, CT, SD, FA, CN, PN, nI s, nI nt', CG, FK, FX, FY, FZ, nI kc', RG, CE, RT, OO, OA, OB, OC, BS, BL, HC', SC', ho_K H', ho_X H', ho_Y H', ho_Z H', ho_I H', ho_R H', ho_G H', ho_S H', ZR', sn_K Z', sn_X Z', sn_Y Z', sn_Z Z', TM, PA, PV, HO, CO, CV, NZ, NE, KB', KO', KT')) : ∀ d j : Nat, j + d = kc → wX_loaded_2 post x c PG FB CT SD FA CN PN (nI s) (nI nt) CG FK FX FY FZ (nI kc) RG CE RT OO OA OB OC BS BL HC SC (ho_K H) (ho_X H) (ho_Y H) (ho_Z H) (ho_I H) (ho_R H) (ho_G H) (ho_S H) ZR (sn_K Z) (sn_X Z) (sn_Y Z) (sn_Z Z) TM PA PV HO CO CV NZ NE KB KO KT (d + 1) (nI j) := by
  have hsz := h.2.1
  unfold tr_Sz at hsz
  have hnt : nt ≤ 32 := by omega
  have hHm := h.2.2.2.1
  have hx : vp_in x nt := by rw [ex]; exact hHm.1 _ (vi_lt hb)
  intro d
  induction d with
  | zero =>
    intro j hj
    have c4 : (nI s).toNatClampNeg = s := nI_clamp (by omega)
    have i4 : vp_in (nI s) 4 := vp_in_nI hs (by omega)
    have c64 : (nI (16 * s + m)).toNatClampNeg = 16 * s + m := nI_clamp (by omega)
    have i64 : vp_in (nI (16 * s + m)) 64 := vp_in_nI (by omega) (by omega)
    have ei : 16 * nI s + upd HC s (nI (m + 1)) (nI s).toNatClampNeg - 1 = nI (16 * s + m) := by
      rw [c4, pk_us, nu_16]; exact nI_pred (16 * s + m)
    have i64' : vp_in (16 * nI s + upd HC s (nI (m + 1)) (nI s).toNatClampNeg - 1) 64 := by rw [ei]; exact i64
    have eS : upd (upd (ho_S H) (16 * s + m) (-1)) (16 * nI s + upd HC s (nI (m + 1)) (nI s).toNatClampNeg - 1).toNatClampNeg (nI (8 * s + sc)) = ho_S (ho_up H (16 * s + m) (9, x, 0, 0, c, nI nt, CG, nI (8 * s + sc))) := by
      rw [ei, c64]; exact ho_snS
    refine br_t (nI_le (a := kc) (b := j) (by omega) (by omega)) ?_
    refine xw_snap hs hsz.2.1 hsc (fun i hi => vi_mono (hHm.1 i hi) hnt) ?_
    refine xw_put (nI (8 * s + sc)) hs hsz.1 hm (by decide) ?_
    refine And.intro i4 (And.intro i64' (nm_r eS ?_))
    refine xw_rem hkc ?_
    exact K _ _ _ _ _ _ _ _ _ _ _ _ _ (tr_Nx_ld h hs hm hsc hkk hcg ha hb ex)
  | succ d ih =>
    intro j hj
    have ih' := ih (j + 1) (by omega)
    have c8 : (nI j).toNatClampNeg = j := nI_clamp (by omega)
    have i8 : vp_in (nI j) 8 := vp_in_nI (by omega) (by omega)
    have t : ∀ f : Nat → Int32, f (nI j).toNatClampNeg = f j := fun f => congrArg f c8
    refine br_f (nI_ge (a := j) (b := kc) (by omega) (by omega)) (And.intro i8 (br_c (fun eb => And.intro i8 (br_c (fun eo => And.intro i8 ?_) (fun _ => nm_r (nI_1 j) ih'))) (fun _ => nm_r (nI_1 j) ih')))
    have hk := h.2.2.2.2.2.1 j (by omega)
    rw [t KB] at eb
    rw [t KO] at eo
    refine pr_r (t KT) (K m nt sc kc (KT j) H HC SC Z ZR KB KO KT (tr_Nx_val (tr_Out_id h hk.2) ha hHm (fun pg rt R F M g V A => ?_)))
    have evx : g.1 b.toNatClampNeg = V x.toNatClampNeg := by rw [ex]; exact A.2.2.2.1 _ (vi_lt hb)
    have q := A.2.2.2.2.2.2.2 j (by omega)
    rw [eb, eo] at q
    refine ⟨?_, ?_⟩
    · rw [gf_9, evx]; exact q.1
    · rw [gx_9, evx, q.2, A.2.2.2.2.1]
theorem tr_load {post : Int32 → SX → Prop} {x : Int32} (h : tr_St kk s m nt sc kc H0 C0 D0 Z0 R0 H HC SC Z ZR HO FX FY FZ CO NZ KB KT) (hs : s < 4) (hm : m < 16) (hsc : sc < 8) (hkc : kc < 8) (hkk : kk < 100) (hcg : CG < nI kk) (ha : vp_in a 8) (hb : vp_in b 8) (ex : x = HO b.toNatClampNeg)
    (K : ∀ (m' nt' sc' kc' : Nat) (r : Int32) (H' : Nat → ho_Op) (HC' SC' : Nat → Int32) (Z' : Nat → ho_Sn) (ZR' KB' KO' KT' : Nat → Int32), tr_Nx 1 9 a b c CG kk s m nt sc kc H0 C0 D0 Z0 R0 H HC SC Z ZR HO FK FX FY FZ CO CV NZ KB KO KT m' nt' sc' kc' H' HC' SC' Z' ZR' (upd HO a.toNatClampNeg r) FK FX FY FZ CO CV NZ KB' KO' KT' → post r (PG, FB, CT, SD, FA, CN, PN, nI s, nI nt', CG, FK, FX, FY, FZ, nI kc', RG, CE, RT, OO, OA, OB, OC, BS, BL, HC', SC', ho_K H', ho_X H', ho_Y H', ho_Z H', ho_I H', ho_R H', ho_G H', ho_S H', ZR', sn_K Z', sn_X Z', sn_Y Z', sn_Z Z', TM, PA, PV, HO, CO, CV, NZ, NE, KB', KO', KT')) : wpX_loaded post (PG, FB, CT, SD, FA, CN, PN, nI s, nI nt, CG, FK, FX, FY, FZ, nI kc, RG, CE, RT, OO, OA, OB, OC, BS, BL, HC, SC, ho_K H, ho_X H, ho_Y H, ho_Z H, ho_I H, ho_R H, ho_G H, ho_S H, ZR, sn_K Z, sn_X Z, sn_Y Z, sn_Z Z, TM, PA, PV, HO, CO, CV, NZ, NE, KB, KO, KT) x c :=
  ⟨kc + 1, tr_load2 h hs hm hsc hkc hkk hcg ha hb ex K kc 0 (Nat.zero_add kc)⟩
theorem tr_store49 {post : SX → Prop} {x y : Int32} {kc : Nat} {B0 O0 T0 : Nat → Int32} (hkc : kc < 8)
    (K : ∀ (n : Nat) (KB' KO' KT' : Nat → Int32), tr_kept n kc kc x c B0 O0 T0 KB' KO' KT' → post (PG, FB, CT, SD, FA, CN, PN, SL, NT, CG, FK, FX, FY, FZ, nI (n + 1), RG, CE, RT, OO, OA, OB, OC, BS, BL, HC, SC, ho_K H, ho_X H, ho_Y H, ho_Z H, ho_I H, ho_R H, ho_G H, ho_S H, ZR, sn_K Z, sn_X Z, sn_Y Z, sn_Z Z, TM, PA, PV, HO, CO, CV, NZ, NE, upd KB' n x, upd KO' n c, upd KT' n y)) : ∀ (d j n : Nat) (KB' KO' KT' : Nat → Int32), j + d = kc → tr_kept n j kc x c B0 O0 T0 KB' KO' KT' → wX_stored_49 post x c y PG FB CT SD FA CN PN SL NT CG FK FX FY FZ (nI kc) (d + 1) (nI n) (nI j) RG CE RT OO OA OB OC BS BL HC SC (ho_K H) (ho_X H) (ho_Y H) (ho_Z H) (ho_I H) (ho_R H) (ho_G H) (ho_S H) ZR (sn_K Z) (sn_X Z) (sn_Y Z) (sn_Z Z) TM PA PV HO CO CV NZ NE KB' KO' KT' := by
  intro d
  induction d with
  | zero =>
    intro j n KB' KO' KT' hj hk
    have ej : j = kc := by omega
    subst ej
    refine br_t (nI_le (a := j) (b := j) (by omega) (by omega)) ?_
    exact xw_rem (by have := hk.1; omega) (K n KB' KO' KT' hk)
  | succ d ih =>
    intro j n KB' KO' KT' hj hk
    obtain ⟨k1, k2, k3, k4⟩ := hk
    have c8 : (nI j).toNatClampNeg = j := nI_clamp (by omega)
    have cn : (nI n).toNatClampNeg = n := nI_clamp (by omega)
    have i8 : vp_in (nI j) 8 := vp_in_nI (by omega) (by omega)
    have n8 : vp_in (nI n) 8 := vp_in_nI (by omega) (by omega)
    have e4 := k4 j (Nat.le_refl j)
    have skip : wX_stored_49 post x c y PG FB CT SD FA CN PN SL NT CG FK FX FY FZ (nI kc) (d + 1) (nI n) (nI (j + 1)) RG CE RT OO OA OB OC BS BL HC SC (ho_K H) (ho_X H) (ho_Y H) (ho_Z H) (ho_I H) (ho_R H) (ho_G H) (ho_S H) ZR (sn_K Z) (sn_X Z) (sn_Y Z) (sn_Z Z) TM PA PV HO CO CV NZ NE KB' KO' KT' :=
      ih (j + 1) n KB' KO' KT' (by omega) ⟨by omega, by omega, k3, fun i hi => k4 i (by omega)⟩
    have eB : upd KB' (nI n).toNatClampNeg (KB' (nI j).toNatClampNeg) = upd KB' n (B0 j) := by rw [cn, c8, e4.1]
    have eO : upd KO' (nI n).toNatClampNeg (KO' (nI j).toNatClampNeg) = upd KO' n (O0 j) := by rw [cn, c8, e4.2.1]
    have eT : upd KT' (nI n).toNatClampNeg (KT' (nI j).toNatClampNeg) = upd KT' n (T0 j) := by rw [cn, c8, e4.2.2]
    refine br_f (nI_ge (a := j) (b := kc) (by omega) (by omega)) (And.intro i8 (br_c (fun eb => And.intro i8 (br_c (fun eo => nm_r (nI_1 j) skip) (fun no => And.intro i8 (And.intro n8 (nm_r eB (And.intro i8 (And.intro n8 (nm_r eO (And.intro i8 (And.intro n8 (nm_r eT (nm_r (nI_1 n) (nm_r (nI_1 j) ?_))))))))))))) (fun _ => nm_r (nI_1 j) skip)))
    rw [c8, e4.1] at eb
    rw [c8, e4.2.1] at no
    refine ih (j + 1) (n + 1) _ _ _ (by omega) ⟨by omega, by omega, fun i hi => ?_, fun i hi => ?_⟩
    · by_cases e : i = n
      · subst e
        exact ⟨j, by omega, pk_us, pk_us, pk_us, eb, no⟩
      · rw [pk_un e, pk_un e, pk_un e]
        exact k3 i (by omega)
    · rw [pk_un (by omega), pk_un (by omega), pk_un (by omega)]
      exact k4 i (by omega)
theorem tr_store {post : SX → Prop} {x y : Int32} (h : tr_St kk s m nt sc kc H0 C0 D0 Z0 R0 H HC SC Z ZR HO FX FY FZ CO NZ KB KT) (hs : s < 4) (hm : m < 16) (hsc : sc < 8) (hkc : kc < 8) (hkk : kk < 100) (hcg : CG < nI kk) (ha : vp_in a 8) (hb : vp_in b 8) (ex : x = HO b.toNatClampNeg) (ey : y = HO a.toNatClampNeg)
    (K : ∀ (m' sc' kc' : Nat) (H' : Nat → ho_Op) (HC' SC' : Nat → Int32) (Z' : Nat → ho_Sn) (ZR' KB' KO' KT' : Nat → Int32), tr_Nx 1 10 a b c CG kk s m nt sc kc H0 C0 D0 Z0 R0 H HC SC Z ZR HO FK FX FY FZ CO CV NZ KB KO KT m' nt sc' kc' H' HC' SC' Z' ZR' HO FK FX FY FZ CO CV NZ KB' KO' KT' → post (PG, FB, CT, SD, FA, CN, PN, nI s, nI nt, CG, FK, FX, FY, FZ, nI kc', RG, CE, RT, OO, OA, OB, OC, BS, BL, HC', SC', ho_K H', ho_X H', ho_Y H', ho_Z H', ho_I H', ho_R H', ho_G H', ho_S H', ZR', sn_K Z', sn_X Z', sn_Y Z', sn_Z Z', TM, PA, PV, HO, CO, CV, NZ, NE, KB', KO', KT')) : wpX_stored post (PG, FB, CT, SD, FA, CN, PN, nI s, nI nt, CG, FK, FX, FY, FZ, nI kc, RG, CE, RT, OO, OA, OB, OC, BS, BL, HC, SC, ho_K H, ho_X H, ho_Y H, ho_Z H, ho_I H, ho_R H, ho_G H, ho_S H, ZR, sn_K Z, sn_X Z, sn_Y Z, sn_Z Z, TM, PA, PV, HO, CO, CV, NZ, NE, KB, KO, KT) x c y := by
  have hsz := h.2.1
  unfold tr_Sz at hsz
  have hnt : nt ≤ 32 := by omega
  have hHm := h.2.2.2.1
  have c4 : (nI s).toNatClampNeg = s := nI_clamp (by omega)
  have i4 : vp_in (nI s) 4 := vp_in_nI hs (by omega)
  have c64 : (nI (16 * s + m)).toNatClampNeg = 16 * s + m := nI_clamp (by omega)
  have i64 : vp_in (nI (16 * s + m)) 64 := vp_in_nI (by omega) (by omega)
  have ei : 16 * nI s + upd HC s (nI (m + 1)) (nI s).toNatClampNeg - 1 = nI (16 * s + m) := by
    rw [c4, pk_us, nu_16]; exact nI_pred (16 * s + m)
  have i64' : vp_in (16 * nI s + upd HC s (nI (m + 1)) (nI s).toNatClampNeg - 1) 64 := by rw [ei]; exact i64
  have eS : upd (upd (ho_S H) (16 * s + m) (-1)) (16 * nI s + upd HC s (nI (m + 1)) (nI s).toNatClampNeg - 1).toNatClampNeg (nI (8 * s + sc)) = ho_S (ho_up H (16 * s + m) (10, x, y, 0, c, 31, CG, nI (8 * s + sc))) := by
    rw [ei, c64]; exact ho_snS
  unfold wpX_stored
  dsimp only
  refine xw_snap hs hsz.2.1 hsc (fun i hi => vi_mono (hHm.1 i hi) hnt) ?_
  refine xw_putT (nI (8 * s + sc)) hs hsz.1 hm ?_
  refine And.intro i4 (And.intro i64' (nm_r eS ⟨kc + 1, ?_⟩))
  refine tr_store49 hkc (B0 := KB) (O0 := KO) (T0 := KT) (fun n KB' KO' KT' hk => ?_) kc 0 0 KB KO KT (Nat.zero_add kc) ⟨by omega, by omega, fun j hj => absurd hj (Nat.not_lt_zero j), fun j _ => ⟨rfl, rfl, rfl⟩⟩
  exact K _ _ _ _ _ _ _ _ _ _ _ (tr_Nx_st h hs hm hsc hkk hcg ha hb ex ey hk)
end
end
section
section
def tr_Fl (kk s m nt sc kc : Nat) (H0 : Nat → ho_Op) (C0 D0 : Nat → Int32) (Z0 : Nat → ho_Sn) (R0 : Nat → Int32) (H : Nat → ho_Op) (HC SC : Nat → Int32) (Z : Nat → ho_Sn) (ZR HO : Nat → Int32) (FK FX FY FZ : Int32) (CO CV NZ KB KO KT : Nat → Int32) (CG : Int32) (m' nt' : Nat) (r : Int32) (H' : Nat → ho_Op) (HC' : Nat → Int32) (FY' FZ' : Int32) : Prop :=
  tr_St kk s m' nt' sc kc H0 C0 D0 Z0 R0 H' HC' SC Z ZR HO r FY' FZ' CO NZ KB KT ∧ nt ≤ nt' ∧ m' ≤ m + 1 ∧ (∃ l2, ho_seg H' (16 * s) m' = ho_seg H (16 * s) m ++ l2 ∧ (∀ o, o ∈ l2 → oq_g o = CG) ∧ ho_cnt l2 = 0) ∧ ∀ (pg : Int32) (rt R : Nat → Int32) (F : Int32) (M : Nat → Int32) (g : gu_G) (V : Nat → Int32), tr_A pg rt R F M g V nt kc (ho_seg H (16 * s) m) HO FK FX FY FZ CO CV NZ KB KO KT → ∃ V' : Nat → Int32, tr_A pg rt R F M g V' nt' kc (ho_seg H' (16 * s) m') HO 0 r FY' FZ' CO CV NZ KB KO KT
variable {PG FB CT SD FA CN PN SL NT CG FK FX FY FZ KC : Int32} {RG CE RT OO OA OB OC BS BL HC SC ZR TM PA PV HO CO CV NZ NE KB KO KT : Nat → Int32} {H : Nat → ho_Op} {Z : Nat → ho_Sn}
variable {kk s m nt sc kc m' nt' sc' kc' : Nat} {H0 H' : Nat → ho_Op} {C0 D0 HC' SC' CO' CV' NZ' : Nat → Int32} {Z0 Z' : Nat → ho_Sn} {R0 ZR' HO' KB' KO' KT' : Nat → Int32} {r o a b c FK' FX' FY' FZ' : Int32}
theorem tr_flags {post : Int32 → SX → Prop} (h : tr_St kk s m nt sc kc H0 C0 D0 Z0 R0 H HC SC Z ZR HO FX FY FZ CO NZ KB KT) (hs : s < 4) (hm : m < 16) (hkk : kk < 100) (hcg : CG < nI kk)
    (K : ∀ (m' nt' : Nat) (r : Int32) (H' : Nat → ho_Op) (HC' : Nat → Int32) (FY' FZ' : Int32), tr_Fl kk s m nt sc kc H0 C0 D0 Z0 R0 H HC SC Z ZR HO FK FX FY FZ CO CV NZ KB KO KT CG m' nt' r H' HC' FY' FZ' → post r (PG, FB, CT, SD, FA, CN, PN, nI s, nI nt', CG, 0, r, FY', FZ', KC, RG, CE, RT, OO, OA, OB, OC, BS, BL, HC', SC, ho_K H', ho_X H', ho_Y H', ho_Z H', ho_I H', ho_R H', ho_G H', ho_S H', ZR, sn_K Z, sn_X Z, sn_Y Z, sn_Z Z, TM, PA, PV, HO, CO, CV, NZ, NE, KB, KO, KT)) : wpX_flagsTemp post (PG, FB, CT, SD, FA, CN, PN, nI s, nI nt, CG, FK, FX, FY, FZ, KC, RG, CE, RT, OO, OA, OB, OC, BS, BL, HC, SC, ho_K H, ho_X H, ho_Y H, ho_Z H, ho_I H, ho_R H, ho_G H, ho_S H, ZR, sn_K Z, sn_X Z, sn_Y Z, sn_Z Z, TM, PA, PV, HO, CO, CV, NZ, NE, KB, KO, KT) := by
  have hsz := h.2.1
  unfold tr_Sz at hsz
  have hHm := h.2.2.2.1
  have h8 : vp_in 8 nt := vp_in_nI (n := 8) (by omega) (by omega)
  refine br_c (fun e => ?_) (fun n => ?_)
  · subst e
    exact K m nt FX H HC FY FZ ⟨h, Nat.le_refl _, by omega, ⟨[], (List.append_nil _).symm, fun q hq => (by cases hq), rfl⟩, fun pg rt R F M g V A => ⟨V, A⟩⟩
  · refine tr_share h hs hm hkk hcg (by decide) (by decide) (by decide) hHm.2.1 hHm.2.2.1 hHm.2.2.2 (fun e => absurd e (by decide)) (fun m' nt' r H' HC' o => ?_)
    obtain ⟨⟨g1, g2, g3, g4, g5, g6, g7⟩, h2, h3, h4, h5, h6, h7⟩ := o
    refine K m' nt' r H' HC' 8 8 ⟨⟨g1, g2, g3, ⟨g4.1, h2, vi_mono h8 h3, vi_mono h8 h3⟩, g5, g6, g7⟩, h3, h5, h6, fun pg rt R F M g V A => ?_⟩
    obtain ⟨V', v1, ⟨a1, a2, a3, a4, a5, a6, a7, a8⟩, v3⟩ := h7 pg rt R F M g V A
    refine ⟨V', a1, a2, a3, a4, ?_, a6, a7, a8⟩
    have e1 : sn_f V' 0 r 8 8 = V' r.toNatClampNeg := if_pos rfl
    rw [e1, v3, A.2.2.2.2.1]
    unfold sn_f
    rw [if_neg n]
    rfl
theorem tr_Nx_pre {r0 : Int32} {m1 nt1 : Nat} {H1 : Nat → ho_Op} {HC1 : Nat → Int32} {FY1 FZ1 : Int32} (h : tr_Fl kk s m nt sc kc H0 C0 D0 Z0 R0 H HC SC Z ZR HO FK FX FY FZ CO CV NZ KB KO KT CG m1 nt1 r0 H1 HC1 FY1 FZ1) (hfl : ∀ (pg : Int32) (rt R : Nat → Int32), gu_flt pg rt o b c R = 0) (w : tr_Nx 1 o a b c CG kk s m1 nt1 sc kc H0 C0 D0 Z0 R0 H1 HC1 SC Z ZR HO 0 r0 FY1 FZ1 CO CV NZ KB KO KT m' nt' sc' kc' H' HC' SC' Z' ZR' HO' FK' FX' FY' FZ' CO' CV' NZ' KB' KO' KT') : tr_Nx 2 o a b c CG kk s m nt sc kc H0 C0 D0 Z0 R0 H HC SC Z ZR HO FK FX FY FZ CO CV NZ KB KO KT m' nt' sc' kc' H' HC' SC' Z' ZR' HO' FK' FX' FY' FZ' CO' CV' NZ' KB' KO' KT' := by
  obtain ⟨_, h2, h3, ⟨l1, l1a, l1b, l1c⟩, h5⟩ := h
  obtain ⟨w1, w2, w3, w4, w5, ⟨l2, l2a, l2b, l2c⟩, w7, w8, w9⟩ := w
  refine ⟨w1, by omega, by omega, w4, w5, ⟨l1 ++ l2, by rw [l2a, l1a, List.append_assoc], fun q hq => ?_, by rw [ho_cnt_app]; omega⟩, w7, fun pg rt R F M g V hp A hf => ?_, fun pg rt R F M g V code A hc hf => ?_⟩
  · rcases List.mem_append.mp hq with hq | hq
    · exact l1b q hq
    · exact l2b q hq
  · obtain ⟨V', A'⟩ := h5 pg rt R F M g V A
    exact w8 pg rt R F M g V' hp A' hf
  · rw [hfl] at hf
    exact absurd hf.symm hc
theorem tr_one {post : SX → Prop} {p : Int32} {on : Nat} (hp : vp_in p 40) (hon : on ≤ 11) (eo : OO p.toNatClampNeg = nI on) (ha : vp_in (OA p.toNatClampNeg) 8) (hb : vp_in (OB p.toNatClampNeg) 8) (h : tr_St kk s m nt sc kc H0 C0 D0 Z0 R0 H HC SC Z ZR HO FX FY FZ CO NZ KB KT) (hs : s < 4) (hm : m + 1 < 16) (hsc : sc < 8) (hkc : kc < 8) (hkk : kk < 100) (hcg : CG < nI kk)
    (K : ∀ (m' nt' sc' kc' : Nat) (H' : Nat → ho_Op) (HC' SC' : Nat → Int32) (Z' : Nat → ho_Sn) (ZR' HO' : Nat → Int32) (FK' FX' FY' FZ' : Int32) (CO' CV' NZ' KB' KO' KT' : Nat → Int32), tr_Nx 2 (OO p.toNatClampNeg) (OA p.toNatClampNeg) (OB p.toNatClampNeg) (OC p.toNatClampNeg) CG kk s m nt sc kc H0 C0 D0 Z0 R0 H HC SC Z ZR HO FK FX FY FZ CO CV NZ KB KO KT m' nt' sc' kc' H' HC' SC' Z' ZR' HO' FK' FX' FY' FZ' CO' CV' NZ' KB' KO' KT' → post (PG, FB, CT, SD, FA, CN, PN, nI s, nI nt', CG, FK', FX', FY', FZ', nI kc', RG, CE, RT, OO, OA, OB, OC, BS, BL, HC', SC', ho_K H', ho_X H', ho_Y H', ho_Z H', ho_I H', ho_R H', ho_G H', ho_S H', ZR', sn_K Z', sn_X Z', sn_Y Z', sn_Z Z', TM, PA, PV, HO', CO', CV', NZ', NE, KB', KO', KT')) : wpX_translateOne post (PG, FB, CT, SD, FA, CN, PN, nI s, nI nt, CG, FK, FX, FY, FZ, nI kc, RG, CE, RT, OO, OA, OB, OC, BS, BL, HC, SC, ho_K H, ho_X H, ho_Y H, ho_Z H, ho_I H, ho_R H, ho_G H, ho_S H, ZR, sn_K Z, sn_X Z, sn_Y Z, sn_Z Z, TM, PA, PV, HO, CO, CV, NZ, NE, KB, KO, KT) p := by
  have hsz := h.2.1
  unfold tr_Sz at hsz
  have hHm := h.2.2.2.1
  have m16 : m < 16 := by omega
  have h8 : vp_in 8 nt := vp_in_nI (n := 8) (by omega) (by omega)
  have hx : vp_in (HO (OB p.toNatClampNeg).toNatClampNeg) nt := hHm.1 _ (vi_lt hb)
  have hy : vp_in (HO (OC p.toNatClampNeg &&& 7).toNatClampNeg) nt := hHm.1 _ (vi_lt (gu_a7 _))
  have vx : ∀ (pg : Int32) (rt R : Nat → Int32) (F : Int32) (M : Nat → Int32) (g : gu_G) (V : Nat → Int32), tr_A pg rt R F M g V nt kc (ho_seg H (16 * s) m) HO FK FX FY FZ CO CV NZ KB KO KT → g.1 (OB p.toNatClampNeg).toNatClampNeg = V (HO (OB p.toNatClampNeg).toNatClampNeg).toNatClampNeg := fun pg rt R F M g V A => A.2.2.2.1 _ (vi_lt hb)
  have vy : ∀ (pg : Int32) (rt R : Nat → Int32) (F : Int32) (M : Nat → Int32) (g : gu_G) (V : Nat → Int32), tr_A pg rt R F M g V nt kc (ho_seg H (16 * s) m) HO FK FX FY FZ CO CV NZ KB KO KT → g.1 (OC p.toNatClampNeg &&& 7).toNatClampNeg = V (HO (OC p.toNatClampNeg &&& 7).toNatClampNeg).toNatClampNeg := fun pg rt R F M g V A => A.2.2.2.1 _ (vi_lt (gu_a7 _))
  refine And.intro hp (nm_e (And.intro hp (nm_e (And.intro hp (And.intro hb (nm_e (And.intro hp (And.intro (gu_a7 _) (nm_e ?_)))))))))
  refine br_c (fun e0 => And.intro hp ?_) (fun n0 => br_c (fun l4 => br_c (fun e5 => ?_) (fun n5 => br_c (fun e6 => ?_) (fun n6 => br_c (fun e7 => ?_) (fun n7 => br_c (fun e8 => And.intro hp ?_) (fun n8 => br_c (fun e9 => And.intro hp ?_) (fun n9 => br_c (fun e10 => And.intro hp (And.intro ha ?_)) (fun n10 => ?_))))))) (fun n4 => ?_))
  · refine tr_const h hs m16 hkk hcg (fun m' nt' r H' HC' CO' CV' NZ' q => And.intro ha (nm_e (K _ _ _ _ _ _ _ _ _ _ _ _ _ _ _ _ _ _ _ _ (tr_Nx_d (tr_Nx_val (FK' := FK) (FX' := FX) (FY' := FY) (FZ' := FZ) q ha hHm (fun pg rt R F M g V A => ?_)) (by omega)))))
    rw [e0]
    exact ⟨rfl, by rw [gx_0, A.2.2.2.2.1]⟩
  · refine tr_flags h hs m16 hkk hcg (fun m1 nt1 r0 H1 HC1 FY1 FZ1 fl => ?_)
    have h1 := fl.1
    have hHm1 := h1.2.2.2.1
    refine tr_share h1 hs (by have := fl.2.2.1; omega) hkk hcg (by decide) (by decide) (by decide) (vi_mono hx fl.2.1) (vi_mono hy fl.2.1) hHm1.2.1 (fun e => absurd e (by decide)) (fun m' nt' r H' HC' q => ?_)
    refine And.intro ha (nm_e (K _ _ _ _ _ _ _ _ _ _ _ _ _ _ _ _ _ _ _ _ (tr_Nx_pre fl (fun pg rt R => by rw [e5]; rfl) (tr_Nx_val (FK' := 5) (FX' := HO (OB p.toNatClampNeg).toNatClampNeg) (FY' := HO (OC p.toNatClampNeg &&& 7).toNatClampNeg) (FZ' := r0) q ha ⟨hHm1.1, vi_mono hx fl.2.1, vi_mono hy fl.2.1, hHm1.2.1⟩ (fun pg rt R F M g V A => ?_)))))
    have ex : g.1 (OB p.toNatClampNeg).toNatClampNeg = V (HO (OB p.toNatClampNeg).toNatClampNeg).toNatClampNeg := A.2.2.2.1 _ (vi_lt hb)
    have ey : g.1 (OC p.toNatClampNeg &&& 7).toNatClampNeg = V (HO (OC p.toNatClampNeg &&& 7).toNatClampNeg).toNatClampNeg := A.2.2.2.1 _ (vi_lt (gu_a7 _))
    have ef : g.2.1 = V r0.toNatClampNeg := A.2.2.2.2.1.trans (if_pos rfl)
    rw [e5]
    exact ⟨rfl, by rw [gx_5, ex, ey, ef]; rfl⟩
  · rw [e6] at K
    refine tr_two h hs m16 hkk hcg (Or.inr (Or.inr (Or.inr (Or.inr rfl)))) hx hy (fun m' nt' r H' HC' CO' CV' NZ' q => And.intro ha (nm_e (K _ _ _ _ _ _ _ _ _ _ _ _ _ _ _ _ _ _ _ _ (tr_Nx_d (tr_Nx_val (FK' := FK) (FX' := FX) (FY' := FY) (FZ' := FZ) q ha hHm (fun pg rt R F M g V A => ?_)) (by omega)))))
    exact ⟨rfl, by rw [gx_6, vx pg rt R F M g V A, vy pg rt R F M g V A, ← A.2.2.2.2.1]; rfl⟩
  · rw [e7] at K
    exact tr_div (a := OA p.toNatClampNeg) (b := OB p.toNatClampNeg) (c := OC p.toNatClampNeg) h hs m16 hsc hkk hcg ha hb rfl rfl (fun m' nt' sc' r H' HC' SC' Z' ZR' CO' CV' NZ' q => And.intro ha (nm_e (K _ _ _ _ _ _ _ _ _ _ _ _ _ _ _ _ _ _ _ _ (tr_Nx_d q (by omega)))))
  · rw [e8] at K
    refine tr_shift h hs m16 hkk hcg hx (fun m' nt' r H' HC' CO' CV' NZ' q => And.intro ha (nm_e (K _ _ _ _ _ _ _ _ _ _ _ _ _ _ _ _ _ _ _ _ (tr_Nx_d (tr_Nx_val (FK' := FK) (FX' := FX) (FY' := FY) (FZ' := FZ) q ha hHm (fun pg rt R F M g V A => ?_)) (by omega)))))
    exact ⟨rfl, by rw [gx_8, vx pg rt R F M g V A, ← A.2.2.2.2.1]⟩
  · rw [e9] at K
    exact tr_load (a := OA p.toNatClampNeg) (b := OB p.toNatClampNeg) (c := OC p.toNatClampNeg) h hs m16 hsc hkc hkk hcg ha hb rfl (fun m' nt' sc' kc' r H' HC' SC' Z' ZR' KB' KO' KT' q => And.intro ha (nm_e (K _ _ _ _ _ _ _ _ _ _ _ _ _ _ _ _ _ _ _ _ (tr_Nx_d q (by omega)))))
  · rw [e10] at K
    exact tr_store (a := OA p.toNatClampNeg) (b := OB p.toNatClampNeg) (c := OC p.toNatClampNeg) h hs m16 hsc hkc hkk hcg ha hb rfl rfl (fun m' sc' kc' H' HC' SC' Z' ZR' KB' KO' KT' q => K _ _ _ _ _ _ _ _ _ _ _ _ _ _ _ _ _ _ _ _ (tr_Nx_d q (by omega)))
  · have e11 : OO p.toNatClampNeg = 11 := by
      rw [eo] at n0 n5 n6 n7 n8 n9 n10 l4 ⊢
      have c1 : on = 11 := by
        have l : 4 < on := (nI_ltI (a := 4) (b := on) (by omega) (by omega)).mp l4
        have a5 : on ≠ 5 := fun e => n5 (by rw [e]; rfl)
        have a6 : on ≠ 6 := fun e => n6 (by rw [e]; rfl)
        have a7 : on ≠ 7 := fun e => n7 (by rw [e]; rfl)
        have a8 : on ≠ 8 := fun e => n8 (by rw [e]; rfl)
        have a9 : on ≠ 9 := fun e => n9 (by rw [e]; rfl)
        have a10 : on ≠ 10 := fun e => n10 (by rw [e]; rfl)
        omega
      rw [c1]; rfl
    rw [e11] at K
    exact K _ _ _ _ _ _ _ _ _ _ _ _ _ _ _ _ _ _ _ _ (tr_Nx_d (tr_Nx_jmp h) (by omega))
  · have hk : OO p.toNatClampNeg = 1 ∨ OO p.toNatClampNeg = 2 ∨ OO p.toNatClampNeg = 3 ∨ OO p.toNatClampNeg = 4 := by
      rw [eo] at n0 n4 ⊢
      have l : ¬ 4 < on := fun z => n4 ((nI_ltI (a := 4) (b := on) (by omega) (by omega)).mpr z)
      have a0 : on ≠ 0 := fun e => n0 (by rw [e]; rfl)
      have cs : on = 1 ∨ on = 2 ∨ on = 3 ∨ on = 4 := by omega
      rcases cs with e | e | e | e <;> rw [e]
      · exact Or.inl rfl
      · exact Or.inr (Or.inl rfl)
      · exact Or.inr (Or.inr (Or.inl rfl))
      · exact Or.inr (Or.inr (Or.inr rfl))
    have hk' : OO p.toNatClampNeg = 1 ∨ OO p.toNatClampNeg = 2 ∨ OO p.toNatClampNeg = 3 ∨ OO p.toNatClampNeg = 4 ∨ OO p.toNatClampNeg = 6 := by
      rcases hk with e | e | e | e
      · exact Or.inl e
      · exact Or.inr (Or.inl e)
      · exact Or.inr (Or.inr (Or.inl e))
      · exact Or.inr (Or.inr (Or.inr (Or.inl e)))
    have k5 : OO p.toNatClampNeg ≠ 5 := by rcases hk with e | e | e | e <;> rw [e] <;> decide
    have k7 : OO p.toNatClampNeg ≠ 7 := by rcases hk with e | e | e | e <;> rw [e] <;> decide
    have k9 : OO p.toNatClampNeg ≠ 9 := by rcases hk with e | e | e | e <;> rw [e] <;> decide
    have k10 : OO p.toNatClampNeg ≠ 10 := by rcases hk with e | e | e | e <;> rw [e] <;> decide
    refine tr_two h hs m16 hkk hcg hk' hx hy (fun m' nt' r H' HC' CO' CV' NZ' q => And.intro ha (nm_e (K _ _ _ _ _ _ _ _ _ _ _ _ _ _ _ _ _ _ _ _ (tr_Nx_d (tr_Nx_val (FK' := OO p.toNatClampNeg) (FX' := HO (OB p.toNatClampNeg).toNatClampNeg) (FY' := HO (OC p.toNatClampNeg &&& 7).toNatClampNeg) (FZ' := 8) q ha ⟨hHm.1, hx, hy, h8⟩ (fun pg rt R F M g V A => ?_)) (by omega)))))
    refine ⟨gf_n k7 k9 k10, ?_⟩
    rw [gx_14 hk, vx pg rt R F M g V A, vy pg rt R F M g V A]
    have s1 : sn_f V (OO p.toNatClampNeg) (HO (OB p.toNatClampNeg).toNatClampNeg) (HO (OC p.toNatClampNeg &&& 7).toNatClampNeg) 8 = gu_flg (OO p.toNatClampNeg) (V (HO (OB p.toNatClampNeg).toNatClampNeg).toNatClampNeg) (V (HO (OC p.toNatClampNeg &&& 7).toNatClampNeg).toNatClampNeg) g.2.1 := (if_neg n0).trans (gu_flg_z k5)
    rw [s1, gu_cmp_z (z := g.2.1) (z' := 0) k5]
end
end
section
section
/-! the first k instructions of a block, translated -/
def gq_f (pg : Int32) (rt : Nat → Int32) (O A B C : Nat → Int32) (st : Nat) (g : gu_G) (i : Nat) : Int32 := gu_flt pg rt (O (st + i)) (B (st + i)) (C (st + i)) (gu_seq O A B C st g i).1
def gq_a (O A B C : Nat → Int32) (st : Nat) (g : gu_G) (i : Nat) : Int32 := (gu_seq O A B C st g i).1 (B (st + i)).toNatClampNeg + C (st + i)
def tr_B (pg : Int32) (rt : Nat → Int32) (O A B C : Nat → Int32) (st : Nat) (R : Nat → Int32) (F : Int32) (M : Nat → Int32) (Z : Nat → ho_Sn) (ZR : Nat → Int32) (e : Nat) (code : Int32) (l : List ho_Op) : Prop := ∃ V : Nat → Int32, (∀ i, i < 8 → V i = R i) ∧ V 8 = F ∧ ho_run pg rt V (nI e) code (gq_a O A B C st (R, F, M) e) (gu_seq O A B C st (R, F, M) e).2.2 (sn_ok Z ZR V (gu_seq O A B C st (R, F, M) e).1 (gu_seq O A B C st (R, F, M) e).2.1) (fun _ _ => False) l (fun t => t < 9) M
def tr_T (OO OA OB OC : Nat → Int32) (st k s m nt sc kc : Nat) (H0 : Nat → ho_Op) (C0 D0 : Nat → Int32) (Z0 : Nat → ho_Sn) (R0 : Nat → Int32) (H : Nat → ho_Op) (HC SC : Nat → Int32) (Z : Nat → ho_Sn) (ZR HO : Nat → Int32) (FK FX FY FZ : Int32) (CO CV NZ KB KO KT : Nat → Int32) : Prop :=
  tr_St k s m nt sc kc H0 C0 D0 Z0 R0 H HC SC Z ZR HO FX FY FZ CO NZ KB KT ∧ m ≤ 2 * k ∧ sc ≤ k ∧ kc ≤ k ∧ (∀ (pg : Int32) (rt R : Nat → Int32) (F : Int32) (M : Nat → Int32), gu_pg pg →
    ((∀ i, i < k → gq_f pg rt OO OA OB OC st (R, F, M) i = 0) → ∃ V : Nat → Int32, tr_A pg rt R F M (gu_seq OO OA OB OC st (R, F, M) k) V nt kc (ho_seg H (16 * s) m) HO FK FX FY FZ CO CV NZ KB KO KT) ∧
    (∀ (e : Nat) (code : Int32), e < k → code ≠ 0 → (∀ i, i < e → gq_f pg rt OO OA OB OC st (R, F, M) i = 0) → gq_f pg rt OO OA OB OC st (R, F, M) e = code → tr_B pg rt OO OA OB OC st R F M Z ZR e code (ho_seg H (16 * s) m))) ∧ ho_cnt (ho_seg H (16 * s) m) ≤ k
variable {OO OA OB OC : Nat → Int32} {st k s m nt sc kc m' nt' sc' kc' : Nat} {H0 H H' : Nat → ho_Op} {C0 D0 HC SC HC' SC' : Nat → Int32} {Z0 Z Z' : Nat → ho_Sn} {R0 ZR HO ZR' HO' : Nat → Int32} {FK FX FY FZ FK' FX' FY' FZ' : Int32} {CO CV NZ KB KO KT CO' CV' NZ' KB' KO' KT' : Nat → Int32}
theorem sn_ok_c {V Re : Nat → Int32} {Fe : Int32} {q : Int32} {D : Nat → Prop} (h1 : Z' q.toNatClampNeg = Z q.toNatClampNeg) (h2 : ∀ i, i < 8 → ZR' (8 * q.toNatClampNeg + i) = ZR (8 * q.toNatClampNeg + i)) (h : sn_ok Z ZR V Re Fe q D) : sn_ok Z' ZR' V Re Fe q D := by
  unfold sn_ok at h ⊢
  show (∀ i, i < 8 → D (ZR' (8 * q.toNatClampNeg + i)).toNatClampNeg ∧ V (ZR' (8 * q.toNatClampNeg + i)).toNatClampNeg = Re i) ∧ D (Z' q.toNatClampNeg).2.1.toNatClampNeg ∧ D (Z' q.toNatClampNeg).2.2.1.toNatClampNeg ∧ D (Z' q.toNatClampNeg).2.2.2.toNatClampNeg ∧ Fe = sn_f V (Z' q.toNatClampNeg).1 (Z' q.toNatClampNeg).2.1 (Z' q.toNatClampNeg).2.2.1 (Z' q.toNatClampNeg).2.2.2
  rw [h1]
  refine ⟨fun i hi => ?_, h.2⟩
  rw [h2 i hi]
  exact h.1 i hi
theorem tr_T_s (hk : k < 90) (hs4 : s < 4) (h : tr_T OO OA OB OC st k s m nt sc kc H0 C0 D0 Z0 R0 H HC SC Z ZR HO FK FX FY FZ CO CV NZ KB KO KT) (w : tr_Nx 2 (OO (st + k)) (OA (st + k)) (OB (st + k)) (OC (st + k)) (nI k) (k + 1) s m nt sc kc H0 C0 D0 Z0 R0 H HC SC Z ZR HO FK FX FY FZ CO CV NZ KB KO KT m' nt' sc' kc' H' HC' SC' Z' ZR' HO' FK' FX' FY' FZ' CO' CV' NZ' KB' KO' KT') : tr_T OO OA OB OC st (k + 1) s m' nt' sc' kc' H0 C0 D0 Z0 R0 H' HC' SC' Z' ZR' HO' FK' FX' FY' FZ' CO' CV' NZ' KB' KO' KT' := by
  obtain ⟨h1, h2, h3, h4, h5, h6⟩ := h
  obtain ⟨w1, w2, w3, w4, w5, ⟨l2, l2a, l2b, l2c⟩, w7, w8, w9⟩ := w
  refine ⟨w1, by omega, by omega, by omega, fun pg rt R F M hp => ⟨fun nf => ?_, fun e code he hc nf hf => ?_⟩, by rw [l2a, ho_cnt_app]; omega⟩
  · obtain ⟨V, A⟩ := (h5 pg rt R F M hp).1 (fun i hi => nf i (by omega))
    exact w8 pg rt R F M _ V hp A (nf k (by omega))
  · by_cases ek : e = k
    · subst ek
      obtain ⟨V, A⟩ := (h5 pg rt R F M hp).1 nf
      exact ⟨V, A.1, A.2.1, w9 pg rt R F M _ V code A hc hf (fun q hq => (h1.2.2.1 q hq).2.2.2.1)⟩
    · obtain ⟨V, v1, v2, r⟩ := (h5 pg rt R F M hp).2 e code (by omega) hc nf hf
      refine ⟨V, v1, v2, ?_⟩
      rw [l2a]
      refine ho_run_app (fun o ho => ?_) _ _ _ (fun o ho hs D hd => ?_) r
      · rw [l2b o ho]
        exact nI_nlt (by omega) (by omega)
      · obtain ⟨q, q1, q2, q3⟩ := (h1.2.2.1 o ho).2.2.2.2.1 hs
        have hsz := h1.2.1
        have cq : (oq_s o).toNatClampNeg = q := by rw [q3]; exact nI_clamp (by omega)
        exact sn_ok_c (by rw [cq]; exact (w7 q q1 q2).1) (by rw [cq]; exact (w7 q q1 q2).2) hd
theorem tr_T_0 (hHC : HC s = 0) (hSC : SC s = 0) (hFr : tr_Fr s H0 C0 D0 Z0 R0 H HC SC Z ZR) (hho : ∀ i, i < 8 → HO i = nI i) (hcn : ∀ t, t < 32 → CO t = 0 ∧ NZ t = 0) : tr_T OO OA OB OC st 0 s 0 9 0 0 H0 C0 D0 Z0 R0 H HC SC Z ZR HO 0 8 8 8 CO CV NZ KB KO KT := by
  have h8 : vp_in 8 9 := vp_in_nI (n := 8) (by omega) (by omega)
  refine ⟨⟨hFr, ⟨hHC, hSC, by omega, by omega⟩, fun o ho => (by cases ho), ⟨fun i hi => ?_, h8, h8, h8⟩, fun t _ ht => hcn t ht, fun j hj => by omega, fun q q1 q2 => by omega⟩, by omega, by omega, by omega, fun pg rt R F M hp => ⟨fun _ => ?_, fun e code he => by omega⟩, Nat.le_refl _⟩
  · rw [hho i hi]; exact vp_in_nI (by omega) (by omega)
  · refine ⟨fun t => if t < 8 then R t else F, fun i hi => if_pos hi, rfl, ⟨fun t ht => ht, rfl⟩, fun i hi => ?_, rfl, fun t ht hz => absurd (hcn t (by omega)).1 hz, fun t ht hz => absurd (hcn t (by omega)).2 hz, fun j hj => by omega⟩
    show R i = if (HO i).toNatClampNeg < 8 then R (HO i).toNatClampNeg else F
    rw [hho i hi, nI_clamp (by omega), if_pos hi]
end
end
section
section
/-! beginBlock, the translator's loop -/
def fl_u (f v : Nat → Int32) (n : Nat) : Nat → Int32 := fun j => if j < n then v j else f j
theorem fl_s {f v : Nat → Int32} {n : Nat} : upd (fl_u f v n) n (v n) = fl_u f v (n + 1) := by
  funext j
  unfold upd fl_u
  by_cases e : j = n
  · rw [if_pos e, if_pos (by omega), e]
  · rw [if_neg e]
    by_cases c : j < n
    · rw [if_pos c, if_pos (by omega)]
    · rw [if_neg c, if_neg (by omega)]
theorem fl_0 {f v : Nat → Int32} : fl_u f v 0 = f := by
  funext j
  exact if_neg (by omega)
theorem fl_at {f v : Nat → Int32} {n j : Nat} (h : j < n) : fl_u f v n j = v j := if_pos h
theorem fl_n {f v : Nat → Int32} {n j : Nat} (h : n ≤ j) : fl_u f v n j = f j := if_neg (by omega)
variable {PG FB CT SD FA CN PN SL NT CG FK FX FY FZ KC : Int32} {RG CE RT OO OA OB OC BS BL HC SC ZR TM PA PV HO CO CV NZ NE KB KO KT : Nat → Int32} {H : Nat → ho_Op} {Z : Nat → ho_Sn}
theorem xw_bb49 {post : SX → Prop} (h : post (PG, FB, CT, SD, FA, CN, PN, SL, NT, CG, 0, 8, 8, 8, 0, RG, CE, RT, OO, OA, OB, OC, BS, BL, HC, SC, ho_K H, ho_X H, ho_Y H, ho_Z H, ho_I H, ho_R H, ho_G H, ho_S H, ZR, sn_K Z, sn_X Z, sn_Y Z, sn_Z Z, TM, PA, PV, HO, fl_u CO (fun _ => 0) 32, CV, fl_u NZ (fun _ => 0) 32, NE, KB, KO, KT)) : ∀ d i : Nat, i + d = 32 → wX_beginBlock_49 post PG FB CT SD FA CN PN SL NT CG FK FX FY FZ KC (d + 1) (nI i) RG CE RT OO OA OB OC BS BL HC SC (ho_K H) (ho_X H) (ho_Y H) (ho_Z H) (ho_I H) (ho_R H) (ho_G H) (ho_S H) ZR (sn_K Z) (sn_X Z) (sn_Y Z) (sn_Z Z) TM PA PV HO (fl_u CO (fun _ => 0) i) CV (fl_u NZ (fun _ => 0) i) NE KB KO KT := by
  intro d
  induction d with
  | zero =>
    intro i hi
    have e : i = 32 := by omega
    subst e
    exact br_t (nI_le (a := 32) (b := 32) (by omega) (by omega)) h
  | succ d ih =>
    intro i hi
    have ci : (nI i).toNatClampNeg = i := nI_clamp (by omega)
    have ii : vp_in (nI i) 32 := vp_in_nI (by omega) (by omega)
    have e1 : upd (fl_u CO (fun _ => 0) i) (nI i).toNatClampNeg (vp_nar .boolean 0) = fl_u CO (fun _ => 0) (i + 1) := by rw [ci, vb_0]; exact fl_s (v := fun _ => 0)
    have e2 : upd (fl_u NZ (fun _ => 0) i) (nI i).toNatClampNeg (vp_nar .boolean 0) = fl_u NZ (fun _ => 0) (i + 1) := by rw [ci, vb_0]; exact fl_s (v := fun _ => 0)
    exact br_f (nI_ge (a := i) (b := 32) (by omega) (by omega)) (And.intro ii (nm_r e1 (And.intro ii (nm_r e2 (nm_r (nI_1 i) (ih (i + 1) (by omega)))))))
theorem xw_bb28 {post : SX → Prop} (h : post (PG, FB, CT, SD, FA, CN, PN, SL, NT, CG, 0, 8, 8, 8, 0, RG, CE, RT, OO, OA, OB, OC, BS, BL, HC, SC, ho_K H, ho_X H, ho_Y H, ho_Z H, ho_I H, ho_R H, ho_G H, ho_S H, ZR, sn_K Z, sn_X Z, sn_Y Z, sn_Z Z, TM, PA, PV, fl_u HO (fun j => nI j) 8, fl_u CO (fun _ => 0) 32, CV, fl_u NZ (fun _ => 0) 32, NE, KB, KO, KT)) : ∀ d i : Nat, i + d = 8 → wX_beginBlock_28 post PG FB CT SD FA CN PN SL NT CG FK FX FY FZ KC (d + 1) (nI i) RG CE RT OO OA OB OC BS BL HC SC (ho_K H) (ho_X H) (ho_Y H) (ho_Z H) (ho_I H) (ho_R H) (ho_G H) (ho_S H) ZR (sn_K Z) (sn_X Z) (sn_Y Z) (sn_Z Z) TM PA PV (fl_u HO (fun j => nI j) i) CO CV NZ NE KB KO KT := by
  intro d
  induction d with
  | zero =>
    intro i hi
    have e : i = 8 := by omega
    subst e
    have w := xw_bb49 (FK := FK) (FX := FX) (FY := FY) (FZ := FZ) (KC := KC) h 32 0 rfl
    rw [fl_0, fl_0] at w
    exact br_t (nI_le (a := 8) (b := 8) (by omega) (by omega)) ⟨33, w⟩
  | succ d ih =>
    intro i hi
    have ci : (nI i).toNatClampNeg = i := nI_clamp (by omega)
    have ii : vp_in (nI i) 8 := vp_in_nI (by omega) (by omega)
    have e1 : upd (fl_u HO (fun j => nI j) i) (nI i).toNatClampNeg (nI i) = fl_u HO (fun j => nI j) (i + 1) := by rw [ci]; exact fl_s (v := fun j => nI j)
    exact br_f (nI_ge (a := i) (b := 8) (by omega) (by omega)) (And.intro ii (nm_r e1 (nm_r (nI_1 i) (ih (i + 1) (by omega)))))
theorem xw_bb {post : SX → Prop} {s : Nat} (hs : s < 4) (h : post (PG, FB, CT, SD, FA, CN, PN, nI s, 9, CG, 0, 8, 8, 8, 0, RG, CE, RT, OO, OA, OB, OC, BS, BL, upd HC s 0, upd SC s 0, ho_K H, ho_X H, ho_Y H, ho_Z H, ho_I H, ho_R H, ho_G H, ho_S H, ZR, sn_K Z, sn_X Z, sn_Y Z, sn_Z Z, TM, PA, PV, fl_u HO (fun j => nI j) 8, fl_u CO (fun _ => 0) 32, CV, fl_u NZ (fun _ => 0) 32, NE, KB, KO, KT)) : wpX_beginBlock post (PG, FB, CT, SD, FA, CN, PN, nI s, NT, CG, FK, FX, FY, FZ, KC, RG, CE, RT, OO, OA, OB, OC, BS, BL, HC, SC, ho_K H, ho_X H, ho_Y H, ho_Z H, ho_I H, ho_R H, ho_G H, ho_S H, ZR, sn_K Z, sn_X Z, sn_Y Z, sn_Z Z, TM, PA, PV, HO, CO, CV, NZ, NE, KB, KO, KT) := by
  have c4 : (nI s).toNatClampNeg = s := nI_clamp (by omega)
  have i4 : vp_in (nI s) 4 := vp_in_nI hs (by omega)
  have e1 : upd HC (nI s).toNatClampNeg 0 = upd HC s 0 := by rw [c4]
  have e2 : upd SC (nI s).toNatClampNeg 0 = upd SC s 0 := by rw [c4]
  have w := xw_bb28 (FK := FK) (FX := FX) (FY := FY) (FZ := FZ) (KC := KC) h 8 0 rfl
  rw [fl_0] at w
  exact And.intro i4 (nm_r e1 (And.intro i4 (nm_r e2 ⟨9, w⟩)))
def bk_C (n lg st cn : Nat) (OO : Nat → Int32) : Prop := 1 ≤ n ∧ n ≤ 7 ∧ n ≤ lg ∧ st + n ≤ cn ∧ (∀ i, i < n → ¬ OO (st + i) = 12) ∧ (∀ i, i + 1 < n → ¬ OO (st + i) = 11)
def pr_ok (OO OA OB : Nat → Int32) : Prop := (∀ j, ∃ on : Nat, on ≤ 12 ∧ OO j = nI on) ∧ (∀ j, vp_in (OA j) 8) ∧ (∀ j, vp_in (OB j) 8)
variable {s lg st cn : Nat} {H0 : Nat → ho_Op} {C0 D0 : Nat → Int32} {Z0 : Nat → ho_Sn} {R0 : Nat → Int32}
theorem tr_cl {post : SX → Prop} {x1 x2 x3 x5 : Int32} {f : Nat} (h : wX_translate_113 post x1 x3 PG FB CT SD FA CN PN SL NT CG FK FX FY FZ KC RG CE RT OO OA OB OC BS BL HC SC (ho_K H) (ho_X H) (ho_Y H) (ho_Z H) (ho_I H) (ho_R H) (ho_G H) (ho_S H) ZR (sn_K Z) (sn_X Z) (sn_Y Z) (sn_Z Z) TM PA PV HO CO CV NZ NE KB KO KT) : wX_translate_17 post x1 x2 (f + 1) x3 0 x5 PG FB CT SD FA CN PN SL NT CG FK FX FY FZ KC RG CE RT OO OA OB OC BS BL HC SC (ho_K H) (ho_X H) (ho_Y H) (ho_Z H) (ho_I H) (ho_R H) (ho_G H) (ho_S H) ZR (sn_K Z) (sn_X Z) (sn_Y Z) (sn_Z Z) TM PA PV HO CO CV NZ NE KB KO KT :=
  br_c (fun _ => h) (fun _ => br_t rfl h)
theorem tr_17 {post : SX → Prop} (hs : s < 4) (hpr : pr_ok OO OA OB) (hst : st < cn) (hcn : cn ≤ 40) (hlg : 1 ≤ lg) (hlg2 : lg ≤ 1000) (h12 : ¬ OO st = 12)
    (K : ∀ (n m nt sc kc : Nat) (H : Nat → ho_Op) (HC SC : Nat → Int32) (Z : Nat → ho_Sn) (ZR HO : Nat → Int32) (FK FX FY FZ CG : Int32) (CO CV NZ KB KO KT : Nat → Int32), tr_T OO OA OB OC st n s m nt sc kc H0 C0 D0 Z0 R0 H HC SC Z ZR HO FK FX FY FZ CO CV NZ KB KO KT → bk_C n lg st cn OO → wX_translate_113 post (nI s) (nI n) PG FB (nI st) SD FA (nI cn) PN (nI s) (nI nt) CG FK FX FY FZ (nI kc) RG CE RT OO OA OB OC BS BL HC SC (ho_K H) (ho_X H) (ho_Y H) (ho_Z H) (ho_I H) (ho_R H) (ho_G H) (ho_S H) ZR (sn_K Z) (sn_X Z) (sn_Y Z) (sn_Z Z) TM PA PV HO CO CV NZ NE KB KO KT) :
    ∀ (d k m nt sc kc : Nat) (H : Nat → ho_Op) (HC SC : Nat → Int32) (Z : Nat → ho_Sn) (ZR HO : Nat → Int32) (FK FX FY FZ CG : Int32) (CO CV NZ KB KO KT : Nat → Int32), k + d = 7 → tr_T OO OA OB OC st k s m nt sc kc H0 C0 D0 Z0 R0 H HC SC Z ZR HO FK FX FY FZ CO CV NZ KB KO KT → k ≤ lg → st + k ≤ cn → (∀ i, i < k → ¬ OO (st + i) = 12) → (∀ i, i < k → ¬ OO (st + i) = 11) → wX_translate_17 post (nI s) (nI lg) (d + 1) (nI k) 1 (nI k) PG FB (nI st) SD FA (nI cn) PN (nI s) (nI nt) CG FK FX FY FZ (nI kc) RG CE RT OO OA OB OC BS BL HC SC (ho_K H) (ho_X H) (ho_Y H) (ho_Z H) (ho_I H) (ho_R H) (ho_G H) (ho_S H) ZR (sn_K Z) (sn_X Z) (sn_Y Z) (sn_Z Z) TM PA PV HO CO CV NZ NE KB KO KT := by
  intro d
  induction d with
  | zero =>
    intro k m nt sc kc H HC SC Z ZR HO FK FX FY FZ CG CO CV NZ KB KO KT hk hT k1 k2 k3 k4
    have e : k = 7 := by omega
    subst e
    exact br_t (nI_le (a := 7) (b := 7) (by omega) (by omega)) (K 7 m nt sc kc H HC SC Z ZR HO FK FX FY FZ CG CO CV NZ KB KO KT hT ⟨by omega, by omega, k1, k2, k3, fun i hi => k4 i (by omega)⟩)
  | succ d ih =>
    intro k m nt sc kc H HC SC Z ZR HO FK FX FY FZ CG CO CV NZ KB KO KT hk hT k1 k2 k3 k4
    have ex6 : nI st + nI k = nI (st + k) := nI_add st k
    have c40 : (nI (st + k)).toNatClampNeg = st + k := nI_clamp (by omega)
    have cl : 1 ≤ k → wX_translate_17 post (nI s) (nI lg) (d + 1) (nI k) 0 (nI (k + 1)) PG FB (nI st) SD FA (nI cn) PN (nI s) (nI nt) CG FK FX FY FZ (nI kc) RG CE RT OO OA OB OC BS BL HC SC (ho_K H) (ho_X H) (ho_Y H) (ho_Z H) (ho_I H) (ho_R H) (ho_G H) (ho_S H) ZR (sn_K Z) (sn_X Z) (sn_Y Z) (sn_Z Z) TM PA PV HO CO CV NZ NE KB KO KT := fun h1 => tr_cl (K k m nt sc kc H HC SC Z ZR HO FK FX FY FZ CG CO CV NZ KB KO KT hT ⟨h1, by omega, k1, k2, k3, fun i hi => k4 i (by omega)⟩)
    refine br_f (nI_ge (a := k) (b := 7) (by omega) (by omega)) (br_f (by decide) (nm_r ex6 (br_c (fun a1 => nm_r (nI_1 k) (cl ?_)) (fun a1 => br_c (fun a2 => nm_r (nI_1 k) (cl ?_)) (fun a2 => And.intro ?_ (br_c (fun a3 => nm_r (nI_1 k) (cl ?_)) (fun a3 => ?_)))))))
    · rw [nI_leI (by omega) (by omega)] at a1
      omega
    · rw [nI_leI (by omega) (by omega)] at a2
      omega
    · rw [nI_leI (by omega) (by omega)] at a2
      exact vp_in_nI (by omega) (by omega)
    · rw [c40] at a3
      by_cases e : k = 0
      · subst e
        exact absurd a3 h12
      · omega
    · rw [nI_leI (by omega) (by omega)] at a1 a2
      have i40 : vp_in (nI (st + k)) 40 := vp_in_nI (by omega) (by omega)
      obtain ⟨on, on1, on2⟩ := hpr.1 (nI (st + k)).toNatClampNeg
      have a3' : ¬ on = 12 := fun e => a3 (by rw [on2, e]; rfl)
      have hb1 := hT.2.1
      have hb2 := hT.2.2.1
      have hb3 := hT.2.2.2.1
      refine tr_one (kk := k + 1) (m := m) (sc := sc) i40 (by omega) on2 (hpr.2.1 _) (hpr.2.2 _) (tr_St_kk hT.1 (by omega) (by omega)) hs (by omega) (by omega) (by omega) (by omega) (nI_lt (a := k) (b := k + 1) (by omega) (by omega)) (fun m' nt' sc' kc' H' HC' SC' Z' ZR' HO' FK' FX' FY' FZ' CO' CV' NZ' KB' KO' KT' q => ?_)
      rw [c40] at q a3
      have hT' := tr_T_s (by omega) hs hT q
      have k3' : ∀ i, i < k + 1 → ¬ OO (st + i) = 12 := lt_s k3 a3
      refine nm_r (nI_1 k) (And.intro i40 (br_c (fun a4 => nm_r (nI_1 k) (tr_cl ?_)) (fun a4 => nm_r (nI_1 k) ?_)))
      · exact K (k + 1) m' nt' sc' kc' H' HC' SC' Z' ZR' HO' FK' FX' FY' FZ' (nI k) CO' CV' NZ' KB' KO' KT' hT' ⟨by omega, by omega, by omega, by omega, k3', fun i hi => k4 i (by omega)⟩
      · rw [c40] at a4
        exact ih (k + 1) m' nt' sc' kc' H' HC' SC' Z' ZR' HO' FK' FX' FY' FZ' (nI k) CO' CV' NZ' KB' KO' KT' (by omega) hT' (by omega) (by omega) k3' (lt_s k4 a4)
end
end
section
section
/-! markSnapshots -/
variable {PG FB CT SD FA CN PN SL NT CG FK FX FY FZ KC : Int32} {RG CE RT OO OA OB OC BS BL HC SC ZR TM PA PV HO CO CV NZ NE KB KO KT : Nat → Int32} {H : Nat → ho_Op} {Z : Nat → ho_Sn}
def mk_q (Z : Nat → ho_Sn) (ZR NE : Nat → Int32) (q : Nat) : Prop := (∀ i, i < 8 → ¬ NE (ZR (8 * q + i)).toNatClampNeg = 0) ∧ ¬ NE (sn_X Z q).toNatClampNeg = 0 ∧ ¬ NE (sn_Y Z q).toNatClampNeg = 0 ∧ ¬ NE (sn_Z Z q).toNatClampNeg = 0
def sn_in (s sc : Nat) (Z : Nat → ho_Sn) (ZR : Nat → Int32) : Prop := ∀ q, 8 * s ≤ q → q < 8 * s + sc → (∀ i, i < 8 → vp_in (ZR (8 * q + i)) 32) ∧ vp_in (sn_X Z q) 32 ∧ vp_in (sn_Y Z q) 32 ∧ vp_in (sn_Z Z q) 32
theorem mk_mono {N N' : Nat → Int32} {q : Nat} (h : ∀ t, ¬ N t = 0 → ¬ N' t = 0) (a : mk_q Z ZR N q) : mk_q Z ZR N' q := ⟨fun i hi => h _ (a.1 i hi), h _ a.2.1, h _ a.2.2.1, h _ a.2.2.2⟩
theorem xw_mk52 {post : SX → Prop} {J : Int32 → (Nat → Int32) → (Nat → Int32) → (Nat → Int32) → (Nat → Int32) → (Nat → Int32) → (Nat → Int32) → (Nat → Int32) → (Nat → Int32) → (Nat → Int32) → (Nat → Int32) → (Nat → Int32) → (Nat → Int32) → (Nat → Int32) → (Nat → Int32) → (Nat → Int32) → (Nat → Int32) → (Nat → Int32) → (Nat → Int32) → (Nat → Int32) → (Nat → Int32) → (Nat → Int32) → (Nat → Int32) → (Nat → Int32) → (Nat → Int32) → (Nat → Int32) → (Nat → Int32) → (Nat → Int32) → (Nat → Int32) → (Nat → Int32) → (Nat → Int32) → (Nat → Int32) → (Nat → Int32) → (Nat → Int32) → (Nat → Int32) → (Nat → Int32) → Prop} {q : Nat} {N0 : Nat → Int32} (hq : q < 32) (hr : (∀ i, i < 8 → vp_in (ZR (8 * q + i)) 32) ∧ vp_in (sn_X Z q) 32 ∧ vp_in (sn_Y Z q) 32 ∧ vp_in (sn_Z Z q) 32)
    (K : ∀ N : Nat → Int32, (∀ t, ¬ N0 t = 0 → ¬ N t = 0) → mk_q Z ZR N q → J (nI (q + 1)) RG CE RT OO OA OB OC BS BL HC SC (ho_K H) (ho_X H) (ho_Y H) (ho_Z H) (ho_I H) (ho_R H) (ho_G H) (ho_S H) ZR (sn_K Z) (sn_X Z) (sn_Y Z) (sn_Z Z) TM PA PV HO CO CV NZ N KB KO KT) : ∀ (d i : Nat) (N : Nat → Int32), i + d = 8 → (∀ t, ¬ N0 t = 0 → ¬ N t = 0) → (∀ j, j < i → ¬ N (ZR (8 * q + j)).toNatClampNeg = 0) → wX_markSnapshots_52 post J (nI q) PG FB CT SD FA CN PN SL NT CG FK FX FY FZ KC (d + 1) (nI i) RG CE RT OO OA OB OC BS BL HC SC (ho_K H) (ho_X H) (ho_Y H) (ho_Z H) (ho_I H) (ho_R H) (ho_G H) (ho_S H) ZR (sn_K Z) (sn_X Z) (sn_Y Z) (sn_Z Z) TM PA PV HO CO CV NZ N KB KO KT := by
  have cq : (nI q).toNatClampNeg = q := nI_clamp (by omega)
  have iq : vp_in (nI q) 32 := vp_in_nI hq (by omega)
  intro d
  induction d with
  | zero =>
    intro i N hi h0 hd
    have e8 : i = 8 := by omega
    subst e8
    have tX : vp_in (sn_X Z (nI q).toNatClampNeg) 32 := by rw [cq]; exact hr.2.1
    have tY : vp_in (sn_Y Z (nI q).toNatClampNeg) 32 := by rw [cq]; exact hr.2.2.1
    have tZ : vp_in (sn_Z Z (nI q).toNatClampNeg) 32 := by rw [cq]; exact hr.2.2.2
    have e1 : upd N (sn_X Z (nI q).toNatClampNeg).toNatClampNeg (vp_nar .boolean 1) = upd N (sn_X Z q).toNatClampNeg 1 := by rw [cq, vb_1]
    have e2 : upd (upd N (sn_X Z q).toNatClampNeg 1) (sn_Y Z (nI q).toNatClampNeg).toNatClampNeg (vp_nar .boolean 1) = upd (upd N (sn_X Z q).toNatClampNeg 1) (sn_Y Z q).toNatClampNeg 1 := by rw [cq, vb_1]
    have e3 : upd (upd (upd N (sn_X Z q).toNatClampNeg 1) (sn_Y Z q).toNatClampNeg 1) (sn_Z Z (nI q).toNatClampNeg).toNatClampNeg (vp_nar .boolean 1) = upd (upd (upd N (sn_X Z q).toNatClampNeg 1) (sn_Y Z q).toNatClampNeg 1) (sn_Z Z q).toNatClampNeg 1 := by rw [cq, vb_1]
    refine br_t (nI_le (a := 8) (b := 8) (by omega) (by omega)) (And.intro iq (And.intro tX (nm_r e1 (And.intro iq (And.intro tY (nm_r e2 (And.intro iq (And.intro tZ (nm_r e3 (nm_r (nI_1 q) (K _ ?_ ?_)))))))))))
    · intro t ht
      exact ho_up1 (ho_up1 (ho_up1 (h0 t ht)))
    · exact ⟨fun i hi => ho_up1 (ho_up1 (ho_up1 (hd i hi))), ho_up1 (ho_up1 ho_up1s), ho_up1 ho_up1s, ho_up1s⟩
  | succ d ih =>
    intro i N hi h0 hd
    have eI : 8 * nI q + nI i = nI (8 * q + i) := nu_8 q i
    have i256 : vp_in (8 * nI q + nI i) 256 := by rw [eI]; exact vp_in_nI (by omega) (by omega)
    have cI : (8 * nI q + nI i).toNatClampNeg = 8 * q + i := by rw [eI]; exact nI_clamp (by omega)
    have iz : vp_in (ZR (8 * nI q + nI i).toNatClampNeg) 32 := by rw [cI]; exact hr.1 i (by omega)
    have e1 : upd N (ZR (8 * nI q + nI i).toNatClampNeg).toNatClampNeg (vp_nar .boolean 1) = upd N (ZR (8 * q + i)).toNatClampNeg 1 := by rw [cI, vb_1]
    refine br_f (nI_ge (a := i) (b := 8) (by omega) (by omega)) (And.intro i256 (And.intro iz (nm_r e1 (nm_r (nI_1 i) (ih (i + 1) _ (by omega) (fun t ht => ho_up1 (h0 t ht)) (fun j hj => ?_))))))
    by_cases e : j = i
    · rw [e]; exact ho_up1s
    · exact ho_up1 (hd j (by omega))
theorem xw_mk29 {post : SX → Prop} {s sc : Nat} (hs : s < 4) (hsc : SC s = nI sc) (hsc8 : sc ≤ 8) (hr : sn_in s sc Z ZR) (K : ∀ N : Nat → Int32, (∀ q, 8 * s ≤ q → q < 8 * s + sc → mk_q Z ZR N q) → post (PG, FB, CT, SD, FA, CN, PN, nI s, NT, CG, FK, FX, FY, FZ, KC, RG, CE, RT, OO, OA, OB, OC, BS, BL, HC, SC, ho_K H, ho_X H, ho_Y H, ho_Z H, ho_I H, ho_R H, ho_G H, ho_S H, ZR, sn_K Z, sn_X Z, sn_Y Z, sn_Z Z, TM, PA, PV, HO, CO, CV, NZ, N, KB, KO, KT)) : ∀ (d q : Nat) (N : Nat → Int32), q + d = 8 * s + sc → 8 * s ≤ q → (∀ p, 8 * s ≤ p → p < q → mk_q Z ZR N p) → wX_markSnapshots_29 post PG FB CT SD FA CN PN (nI s) NT CG FK FX FY FZ KC (d + 1) (nI q) RG CE RT OO OA OB OC BS BL HC SC (ho_K H) (ho_X H) (ho_Y H) (ho_Z H) (ho_I H) (ho_R H) (ho_G H) (ho_S H) ZR (sn_K Z) (sn_X Z) (sn_Y Z) (sn_Z Z) TM PA PV HO CO CV NZ N KB KO KT := by
  have c4 : (nI s).toNatClampNeg = s := nI_clamp (by omega)
  have i4 : vp_in (nI s) 4 := vp_in_nI hs (by omega)
  have eL : 8 * nI s + SC (nI s).toNatClampNeg = nI (8 * s + sc) := by rw [c4, hsc]; exact nu_8 s sc
  intro d
  induction d with
  | zero =>
    intro q N hq h8 hd
    have hle : 8 * nI s + SC (nI s).toNatClampNeg ≤ nI q := by rw [eL]; exact nI_le (by omega) (by omega)
    exact And.intro i4 (br_t hle (K N (fun p p1 p2 => hd p p1 (by omega))))
  | succ d ih =>
    intro q N hq h8 hd
    have hle : ¬ 8 * nI s + SC (nI s).toNatClampNeg ≤ nI q := by rw [eL]; exact nI_ge (by omega) (by omega)
    refine And.intro i4 (br_f hle ⟨9, xw_mk52 (N0 := N) (by omega) (hr q h8 (by omega)) (fun N' h1 h2 => ?_) 8 0 N rfl (fun _ h => h) (fun j hj => absurd hj (Nat.not_lt_zero j))⟩)
    refine ih (q + 1) N' (by omega) (by omega) (fun p p1 p2 => ?_)
    by_cases e : p = q
    · rw [e]; exact h2
    · exact mk_mono h1 (hd p p1 (by omega))
theorem xw_mk2 {post : SX → Prop} {s sc : Nat} (hs : s < 4) (hsc : SC s = nI sc) (hsc8 : sc ≤ 8) (hr : sn_in s sc Z ZR) (K : ∀ N : Nat → Int32, (∀ q, 8 * s ≤ q → q < 8 * s + sc → mk_q Z ZR N q) → post (PG, FB, CT, SD, FA, CN, PN, nI s, NT, CG, FK, FX, FY, FZ, KC, RG, CE, RT, OO, OA, OB, OC, BS, BL, HC, SC, ho_K H, ho_X H, ho_Y H, ho_Z H, ho_I H, ho_R H, ho_G H, ho_S H, ZR, sn_K Z, sn_X Z, sn_Y Z, sn_Z Z, TM, PA, PV, HO, CO, CV, NZ, N, KB, KO, KT)) : ∀ (d i : Nat) (N : Nat → Int32), i + d = 32 → wX_markSnapshots_2 post PG FB CT SD FA CN PN (nI s) NT CG FK FX FY FZ KC (d + 1) (nI i) RG CE RT OO OA OB OC BS BL HC SC (ho_K H) (ho_X H) (ho_Y H) (ho_Z H) (ho_I H) (ho_R H) (ho_G H) (ho_S H) ZR (sn_K Z) (sn_X Z) (sn_Y Z) (sn_Z Z) TM PA PV HO CO CV NZ N KB KO KT := by
  intro d
  induction d with
  | zero =>
    intro i N hi
    exact br_t (nI_le (a := 32) (b := i) (by omega) (by omega)) (nm_r (pk_mul 8 s) ⟨sc + 1, xw_mk29 hs hsc hsc8 hr K sc (8 * s) N rfl (Nat.le_refl _) (fun p p1 p2 => by omega)⟩)
  | succ d ih =>
    intro i N hi
    exact br_f (nI_ge (a := i) (b := 32) (by omega) (by omega)) (And.intro (vp_in_nI (by omega) (by omega)) (nm_e (nm_r (nI_1 i) (ih (i + 1) _ (by omega)))))
theorem xw_mk {post : SX → Prop} {s sc : Nat} (hs : s < 4) (hsc : SC s = nI sc) (hsc8 : sc ≤ 8) (hr : sn_in s sc Z ZR) (K : ∀ N : Nat → Int32, (∀ q, 8 * s ≤ q → q < 8 * s + sc → mk_q Z ZR N q) → post (PG, FB, CT, SD, FA, CN, PN, nI s, NT, CG, FK, FX, FY, FZ, KC, RG, CE, RT, OO, OA, OB, OC, BS, BL, HC, SC, ho_K H, ho_X H, ho_Y H, ho_Z H, ho_I H, ho_R H, ho_G H, ho_S H, ZR, sn_K Z, sn_X Z, sn_Y Z, sn_Z Z, TM, PA, PV, HO, CO, CV, NZ, N, KB, KO, KT)) : wpX_markSnapshots post (PG, FB, CT, SD, FA, CN, PN, nI s, NT, CG, FK, FX, FY, FZ, KC, RG, CE, RT, OO, OA, OB, OC, BS, BL, HC, SC, ho_K H, ho_X H, ho_Y H, ho_Z H, ho_I H, ho_R H, ho_G H, ho_S H, ZR, sn_K Z, sn_X Z, sn_Y Z, sn_Z Z, TM, PA, PV, HO, CO, CV, NZ, NE, KB, KO, KT) :=
  ⟨33, xw_mk2 hs hsc hsc8 hr K 32 0 NE rfl⟩
theorem xw_copy {post : SX → Prop} {k t : Nat} (hk : k < 64) (ht : t < 64) (h : post (PG, FB, CT, SD, FA, CN, PN, SL, NT, CG, FK, FX, FY, FZ, KC, RG, CE, RT, OO, OA, OB, OC, BS, BL, HC, SC, ho_K (ho_up H t (H k)), ho_X (ho_up H t (H k)), ho_Y (ho_up H t (H k)), ho_Z (ho_up H t (H k)), ho_I (ho_up H t (H k)), ho_R (ho_up H t (H k)), ho_G (ho_up H t (H k)), ho_S (ho_up H t (H k)), ZR, sn_K Z, sn_X Z, sn_Y Z, sn_Z Z, TM, PA, PV, HO, CO, CV, NZ, NE, KB, KO, KT)) : wpX_copyOperation post (PG, FB, CT, SD, FA, CN, PN, SL, NT, CG, FK, FX, FY, FZ, KC, RG, CE, RT, OO, OA, OB, OC, BS, BL, HC, SC, ho_K H, ho_X H, ho_Y H, ho_Z H, ho_I H, ho_R H, ho_G H, ho_S H, ZR, sn_K Z, sn_X Z, sn_Y Z, sn_Z Z, TM, PA, PV, HO, CO, CV, NZ, NE, KB, KO, KT) (nI k) (nI t) := by
  have ik : vp_in (nI k) 64 := vp_in_nI hk (by omega)
  have it : vp_in (nI t) 64 := vp_in_nI ht (by omega)
  have ck : (nI k).toNatClampNeg = k := nI_clamp (by omega)
  have ct : (nI t).toNatClampNeg = t := nI_clamp (by omega)
  have e1 : upd (ho_K H) (nI t).toNatClampNeg (ho_K H (nI k).toNatClampNeg) = ho_K (ho_up H t (H k)) := ho_upf oq_k ct (by rw [ck])
  have e2 : upd (ho_X H) (nI t).toNatClampNeg (ho_X H (nI k).toNatClampNeg) = ho_X (ho_up H t (H k)) := ho_upf oq_x ct (by rw [ck])
  have e3 : upd (ho_Y H) (nI t).toNatClampNeg (ho_Y H (nI k).toNatClampNeg) = ho_Y (ho_up H t (H k)) := ho_upf oq_y ct (by rw [ck])
  have e4 : upd (ho_Z H) (nI t).toNatClampNeg (ho_Z H (nI k).toNatClampNeg) = ho_Z (ho_up H t (H k)) := ho_upf oq_z ct (by rw [ck])
  have e5 : upd (ho_I H) (nI t).toNatClampNeg (ho_I H (nI k).toNatClampNeg) = ho_I (ho_up H t (H k)) := ho_upf oq_i ct (by rw [ck])
  have e6 : upd (ho_R H) (nI t).toNatClampNeg (ho_R H (nI k).toNatClampNeg) = ho_R (ho_up H t (H k)) := ho_upf oq_r ct (by rw [ck])
  have e7 : upd (ho_G H) (nI t).toNatClampNeg (ho_G H (nI k).toNatClampNeg) = ho_G (ho_up H t (H k)) := ho_upf oq_g ct (by rw [ck])
  have e8 : upd (ho_S H) (nI t).toNatClampNeg (ho_S H (nI k).toNatClampNeg) = ho_S (ho_up H t (H k)) := ho_upf oq_s ct (by rw [ck])
  exact And.intro ik (And.intro it (nm_r e1 (And.intro ik (And.intro it (nm_r e2 (And.intro ik (And.intro it (nm_r e3 (And.intro ik (And.intro it (nm_r e4 (And.intro ik (And.intro it (nm_r e5 (And.intro ik (And.intro it (nm_r e6 (And.intro ik (And.intro it (nm_r e7 (And.intro ik (And.intro it (nm_r e8 h)))))))))))))))))))))))
end
end
section
section
/-! dropUnneeded -/
def ho_mk (N : Nat → Int32) : List ho_Op → List ho_Op
  | [] => []
  | o :: l => (if ho_kb (ho_nd N l) o then o else (-1, o.2)) :: ho_mk N l
def ho_fi (l : List ho_Op) : List ho_Op := l.filter (fun o => ! decide (oq_k o < 0))
theorem ho_fi_mk {N : Nat → Int32} : ∀ (l : List ho_Op), (∀ o, o ∈ l → ¬ oq_k o < 0) → ho_fi (ho_mk N l) = ho_kp N l
  | [], _ => rfl
  | o :: l, h => by
    have ih := ho_fi_mk (N := N) l (fun q hq => h q (List.mem_cons.mpr (Or.inr hq)))
    have h0 := h o List.mem_cons_self
    by_cases k : ho_kb (ho_nd N l) o = true
    · have e1 : ho_mk N (o :: l) = o :: ho_mk N l := by
        show (if ho_kb (ho_nd N l) o then o else (-1, o.2)) :: ho_mk N l = _
        rw [if_pos k]
      have e2 : ho_kp N (o :: l) = o :: ho_kp N l := if_pos k
      rw [e1, e2, ← ih]
      unfold ho_fi
      rw [List.filter_cons_of_pos]
      rw [decide_eq_false h0]; rfl
    · have e1 : ho_mk N (o :: l) = (-1, o.2) :: ho_mk N l := by
        show (if ho_kb (ho_nd N l) o then o else (-1, o.2)) :: ho_mk N l = _
        rw [if_neg k]
      have e2 : ho_kp N (o :: l) = ho_kp N l := if_neg k
      rw [e1, e2, ← ih]
      unfold ho_fi
      rw [List.filter_cons_of_neg]
      intro z
      exact absurd z (by show ¬ (! decide ((-1 : Int32) < 0)) = true; decide)
theorem ho_fi_s {l : List ho_Op} {o : ho_Op} (h : ¬ oq_k o < 0) : ho_fi (l ++ [o]) = ho_fi l ++ [o] := by
  unfold ho_fi
  rw [List.filter_append, List.filter_cons_of_pos, List.filter_nil]
  rw [decide_eq_false h]; rfl
theorem ho_fi_n {l : List ho_Op} {o : ho_Op} (h : oq_k o < 0) : ho_fi (l ++ [o]) = ho_fi l := by
  unfold ho_fi
  rw [List.filter_append, List.filter_cons_of_neg, List.filter_nil, List.append_nil]
  rw [decide_eq_true h]; exact Bool.false_ne_true
variable {PG FB CT SD FA CN PN SL NT CG FK FX FY FZ KC : Int32} {RG CE RT OO OA OB OC BS BL HC SC ZR TM PA PV HO CO CV NZ NE KB KO KT : Nat → Int32} {H : Nat → ho_Op} {Z : Nat → ho_Sn}
theorem xw_dr110 {post : SX → Prop} {s m : Nat} {Hm : Nat → ho_Op} (hs : s < 4) (hm : HC s = nI m) (hm2 : m ≤ 16)
    (K : ∀ (n : Nat) (H' : Nat → ho_Op), n ≤ m → ho_seg H' (16 * s) n = ho_fi (ho_seg Hm (16 * s) m) → (∀ j, (j < 16 * s ∨ 16 * s + 16 ≤ j) → H' j = Hm j) → post (PG, FB, CT, SD, FA, CN, PN, nI s, NT, CG, FK, FX, FY, FZ, KC, RG, CE, RT, OO, OA, OB, OC, BS, BL, upd HC s (nI n), SC, ho_K H', ho_X H', ho_Y H', ho_Z H', ho_I H', ho_R H', ho_G H', ho_S H', ZR, sn_K Z, sn_X Z, sn_Y Z, sn_Z Z, TM, PA, PV, HO, CO, CV, NZ, NE, KB, KO, KT)) :
    ∀ (d j n : Nat) (H' : Nat → ho_Op), j + d = m → n ≤ j → ho_seg H' (16 * s) n = ho_fi (ho_seg Hm (16 * s) j) → (∀ i, 16 * s + j ≤ i → H' i = Hm i) → (∀ i, i < 16 * s → H' i = Hm i) → wX_dropUnneeded_110 post (nI (16 * s)) (d + 1) (nI (16 * s + n)) (nI (16 * s + j)) PG FB CT SD FA CN PN (nI s) NT CG FK FX FY FZ KC RG CE RT OO OA OB OC BS BL HC SC (ho_K H') (ho_X H') (ho_Y H') (ho_Z H') (ho_I H') (ho_R H') (ho_G H') (ho_S H') ZR (sn_K Z) (sn_X Z) (sn_Y Z) (sn_Z Z) TM PA PV HO CO CV NZ NE KB KO KT := by
  have c4 : (nI s).toNatClampNeg = s := nI_clamp (by omega)
  have i4 : vp_in (nI s) 4 := vp_in_nI hs (by omega)
  have e2 : nI (16 * s) + HC (nI s).toNatClampNeg = nI (16 * s + m) := by rw [c4, hm]; exact nI_add _ _
  intro d
  induction d with
  | zero =>
    intro j n H' hj hn h1 h2 h3
    have ej : j = m := by omega
    subst ej
    have hle : nI (16 * s) + HC (nI s).toNatClampNeg ≤ nI (16 * s + j) := by rw [e2]; exact nI_le (by omega) (by omega)
    have eC : upd HC (nI s).toNatClampNeg (nI (16 * s + n) - nI (16 * s)) = upd HC s (nI n) := by
      rw [c4, pk_sub (by omega), show 16 * s + n - 16 * s = n by omega]
    refine And.intro i4 (br_t hle (And.intro i4 (nm_r eC (K n H' hn h1 (fun i hi => ?_)))))
    rcases hi with hi | hi
    · exact h3 i hi
    · exact h2 i (by omega)
  | succ d ih =>
    intro j n H' hj hn h1 h2 h3
    have hle : ¬ nI (16 * s) + HC (nI s).toNatClampNeg ≤ nI (16 * s + j) := by rw [e2]; exact nI_ge (by omega) (by omega)
    have cj : (nI (16 * s + j)).toNatClampNeg = 16 * s + j := nI_clamp (by omega)
    have ij : vp_in (nI (16 * s + j)) 64 := vp_in_nI (by omega) (by omega)
    have nx : nI (16 * s + j) + 1 = nI (16 * s + (j + 1)) := nI_1 _
    have nn : nI (16 * s + n) + 1 = nI (16 * s + (n + 1)) := nI_1 _
    have eo := h2 (16 * s + j) (by omega)
    refine And.intro i4 (br_f hle (And.intro ij (br_c (fun a => nm_r nx ?_) (fun a => xw_copy (by omega) (by omega) ?_))))
    · have a' : oq_k (H' (16 * s + j)) < 0 := by rw [← cj]; exact a
      rw [eo] at a'
      refine ih (j + 1) n H' (by omega) (by omega) ?_ (fun i hi => h2 i (by omega)) h3
      rw [ho_seg_s, ho_fi_n a']
      exact h1
    · have a' : ¬ oq_k (H' (16 * s + j)) < 0 := by rw [← cj]; exact a
      refine nm_r nn (nm_r nx (ih (j + 1) (n + 1) _ (by omega) (by omega) ?_ (fun i hi => ?_) (fun i hi => ?_)))
      · rw [ho_seg_s, ho_seg_s, ho_ups, eo, ho_fi_s (by rw [← eo]; exact a'), ← h1]
        congr 1
        exact ho_seg_c n (16 * s) (fun i i1 i2 => ho_upn (by omega))
      · rw [ho_upn (by omega)]; exact h2 i (by omega)
      · rw [ho_upn (by omega)]; exact h3 i hi
def op_in (o : ho_Op) : Prop := vp_in (oq_x o) 32 ∧ vp_in (oq_y o) 32 ∧ vp_in (oq_z o) 32 ∧ vp_in (oq_r o) 32
theorem sb_1 (x : Int32) : x + (-1) = x - 1 := (Int32.sub_eq_add_neg x 1).symm
theorem xw_dr26 {post : SX → Prop} {s m : Nat} {Hb : Nat → ho_Op} {N : Nat → Int32} (hs : s < 4) (hm2 : m ≤ 16) (hin : ∀ j, j < m → op_in (Hb (16 * s + j)))
    (K : ∀ (NE : Nat → Int32) (H' : Nat → ho_Op), ho_seg H' (16 * s) m = ho_mk N (ho_seg Hb (16 * s) m) → (∀ j, (j < 16 * s ∨ 16 * s + 16 ≤ j) → H' j = Hb j) → ∃ n110 : Nat, wX_dropUnneeded_110 post (nI (16 * s)) n110 (nI (16 * s)) (nI (16 * s)) PG FB CT SD FA CN PN (nI s) NT CG FK FX FY FZ KC RG CE RT OO OA OB OC BS BL HC SC (ho_K H') (ho_X H') (ho_Y H') (ho_Z H') (ho_I H') (ho_R H') (ho_G H') (ho_S H') ZR (sn_K Z) (sn_X Z) (sn_Y Z) (sn_Z Z) TM PA PV HO CO CV NZ NE KB KO KT) :
    ∀ (j : Nat) (H' : Nat → ho_Op), j ≤ m → ho_seg H' (16 * s + j) (m - j) = ho_mk N (ho_seg Hb (16 * s + j) (m - j)) → (∀ i, (i < 16 * s + j ∨ 16 * s + 16 ≤ i) → H' i = Hb i) → wX_dropUnneeded_26 post (nI (16 * s)) PG FB CT SD FA CN PN (nI s) NT CG FK FX FY FZ KC (j + 1) (nI (16 * s + j) - 1) RG CE RT OO OA OB OC BS BL HC SC (ho_K H') (ho_X H') (ho_Y H') (ho_Z H') (ho_I H') (ho_R H') (ho_G H') (ho_S H') ZR (sn_K Z) (sn_X Z) (sn_Y Z) (sn_Z Z) TM PA PV HO CO CV NZ (ho_nd N (ho_seg Hb (16 * s + j) (m - j))) KB KO KT := by
  intro j
  induction j with
  | zero =>
    intro H' hj h1 h2
    refine br_t ?_ (K _ H' h1 (fun i hi => h2 i (by omega)))
    rw [Int32.lt_iff_toInt_lt, Int32.toInt_sub, nI_toInt (by omega), show (1 : Int32).toInt = 1 from by decide, Int.bmod_eq_of_le (by omega) (by omega)]
    have := nI_toInt (n := 16 * s) (by omega)
    rw [show 16 * s + 0 = 16 * s from rfl] at *
    omega
  | succ j ih =>
    intro H' hj h1 h2
    have ex : nI (16 * s + (j + 1)) - 1 = nI (16 * s + j) := nI_pred (16 * s + j)
    rw [ex]
    have cj : (nI (16 * s + j)).toNatClampNeg = 16 * s + j := nI_clamp (by omega)
    have ij : vp_in (nI (16 * s + j)) 64 := vp_in_nI (by omega) (by omega)
    have eo := h2 (16 * s + j) (by omega)
    have es : ho_seg Hb (16 * s + j) (m - j) = Hb (16 * s + j) :: ho_seg Hb (16 * s + (j + 1)) (m - (j + 1)) := by
      rw [show m - j = (m - (j + 1)) + 1 by omega]; rfl
    have es' : ∀ H'' : Nat → ho_Op, ho_seg H'' (16 * s + j) (m - j) = H'' (16 * s + j) :: ho_seg H'' (16 * s + (j + 1)) (m - (j + 1)) := by
      intro H''
      rw [show m - j = (m - (j + 1)) + 1 by omega]; rfl
    have hop := hin j (by omega)
    rw [← eo] at hop
    have keep : ho_keep (ho_nd N (ho_seg Hb (16 * s + (j + 1)) (m - (j + 1)))) (Hb (16 * s + j)) → wX_dropUnneeded_54 post (wX_dropUnneeded_26 post (nI (16 * s)) PG FB CT SD FA CN PN (nI s) NT CG FK FX FY FZ KC (j + 1)) (nI (16 * s)) (nI (16 * s + j)) PG FB CT SD FA CN PN (nI s) NT CG FK FX FY FZ KC RG CE RT OO OA OB OC BS BL HC SC (ho_K H') (ho_X H') (ho_Y H') (ho_Z H') (ho_I H') (ho_R H') (ho_G H') (ho_S H') ZR (sn_K Z) (sn_X Z) (sn_Y Z) (sn_Z Z) TM PA PV HO CO CV NZ (ho_nd N (ho_seg Hb (16 * s + (j + 1)) (m - (j + 1)))) KB KO KT := by
      intro hk
      have k := ho_kb_t hk
      have vx : vp_in (ho_X H' (nI (16 * s + j)).toNatClampNeg) 32 := by rw [cj]; exact hop.1
      have vy : vp_in (ho_Y H' (nI (16 * s + j)).toNatClampNeg) 32 := by rw [cj]; exact hop.2.1
      have vz : vp_in (ho_Z H' (nI (16 * s + j)).toNatClampNeg) 32 := by rw [cj]; exact hop.2.2.1
      have w := ih H' (by omega) (by
        rw [es', es, h1]
        show _ = (if ho_kb (ho_nd N (ho_seg Hb (16 * s + (j + 1)) (m - (j + 1)))) (Hb (16 * s + j)) then Hb (16 * s + j) else (-1, (Hb (16 * s + j)).2)) :: _
        rw [if_pos k, eo]) (fun i hi => h2 i (by omega))
      refine And.intro ij (And.intro vx (nm_e (And.intro ij (And.intro vy (nm_e (And.intro ij (And.intro vz (nm_e (nm_r (sb_1 _) ?_)))))))))
      rw [es] at w
      have en : ho_nd N (Hb (16 * s + j) :: ho_seg Hb (16 * s + (j + 1)) (m - (j + 1))) = upd (upd (upd (ho_nd N (ho_seg Hb (16 * s + (j + 1)) (m - (j + 1)))) (oq_x (Hb (16 * s + j))).toNatClampNeg 1) (oq_y (Hb (16 * s + j))).toNatClampNeg 1) (oq_z (Hb (16 * s + j))).toNatClampNeg 1 := if_pos k
      rw [en, ← eo] at w
      rw [cj, vb_1]
      exact w
    refine br_f (nI_nlt (by omega) (by omega)) (And.intro ij (br_c (fun a => keep (Or.inl ?_)) (fun a => And.intro ij (And.intro ?_ (br_c (fun b => And.intro ij ?_) (fun b => keep (Or.inr ?_)))))))
    · intro z
      have a' : 0 ≤ oq_s (H' (16 * s + j)) := by rw [← cj]; exact a
      rw [eo] at a'
      exact absurd z (Int32.not_lt.mpr a')
    · rw [cj]; exact hop.2.2.2
    · have a' : oq_s (Hb (16 * s + j)) < 0 := by
        rw [← eo, ← cj]; exact Int32.not_le.mp a
      have b' : ho_nd N (ho_seg Hb (16 * s + (j + 1)) (m - (j + 1))) (oq_r (Hb (16 * s + j))).toNatClampNeg = 0 := by
        rw [← eo]
        rw [cj] at b
        exact b
      have k : ¬ ho_kb (ho_nd N (ho_seg Hb (16 * s + (j + 1)) (m - (j + 1)))) (Hb (16 * s + j)) = true := by rw [ho_kb_f a' b']; exact Bool.false_ne_true
      have eK : upd (ho_K H') (nI (16 * s + j)).toNatClampNeg (-1) = ho_K (ho_up H' (16 * s + j) (-1, (H' (16 * s + j)).2)) := ho_upf oq_k cj rfl
      have e2 : ho_X H' = ho_X (ho_up H' (16 * s + j) (-1, (H' (16 * s + j)).2)) := ho_upe oq_x rfl
      have e3 : ho_Y H' = ho_Y (ho_up H' (16 * s + j) (-1, (H' (16 * s + j)).2)) := ho_upe oq_y rfl
      have e4 : ho_Z H' = ho_Z (ho_up H' (16 * s + j) (-1, (H' (16 * s + j)).2)) := ho_upe oq_z rfl
      have e5 : ho_I H' = ho_I (ho_up H' (16 * s + j) (-1, (H' (16 * s + j)).2)) := ho_upe oq_i rfl
      have e6 : ho_R H' = ho_R (ho_up H' (16 * s + j) (-1, (H' (16 * s + j)).2)) := ho_upe oq_r rfl
      have e7 : ho_G H' = ho_G (ho_up H' (16 * s + j) (-1, (H' (16 * s + j)).2)) := ho_upe oq_g rfl
      have e8 : ho_S H' = ho_S (ho_up H' (16 * s + j) (-1, (H' (16 * s + j)).2)) := ho_upe oq_s rfl
      have w := ih (ho_up H' (16 * s + j) (-1, (H' (16 * s + j)).2)) (by omega) (by
        rw [es', es, ho_ups]
        show _ = (if ho_kb (ho_nd N (ho_seg Hb (16 * s + (j + 1)) (m - (j + 1)))) (Hb (16 * s + j)) then Hb (16 * s + j) else (-1, (Hb (16 * s + j)).2)) :: _
        rw [if_neg k, eo, ← h1]
        congr 1
        exact ho_seg_c _ _ (fun i i1 i2 => ho_upn (by omega))) (fun i hi => by rw [ho_upn (by omega)]; exact h2 i (by omega))
      rw [es] at w
      have en : ho_nd N (Hb (16 * s + j) :: ho_seg Hb (16 * s + (j + 1)) (m - (j + 1))) = ho_nd N (ho_seg Hb (16 * s + (j + 1)) (m - (j + 1))) := if_neg k
      rw [en, ← e2, ← e3, ← e4, ← e5, ← e6, ← e7, ← e8] at w
      exact nm_r eK (nm_r (sb_1 _) w)
    · rw [← eo]
      rw [cj] at b
      exact b
theorem xw_drop {post : SX → Prop} {s m sc : Nat} (hs : s < 4) (hm : HC s = nI m) (hm2 : m ≤ 16) (hsc : SC s = nI sc) (hsc8 : sc ≤ 8) (hr : sn_in s sc Z ZR) (hin : ∀ j, j < m → op_in (H (16 * s + j))) (hk0 : ∀ o, o ∈ ho_seg H (16 * s) m → ¬ oq_k o < 0)
    (K : ∀ (n : Nat) (H' : Nat → ho_Op) (N NE' : Nat → Int32), n ≤ m → (∀ q, 8 * s ≤ q → q < 8 * s + sc → mk_q Z ZR N q) → ho_seg H' (16 * s) n = ho_kp N (ho_seg H (16 * s) m) → (∀ j, (j < 16 * s ∨ 16 * s + 16 ≤ j) → H' j = H j) → post (PG, FB, CT, SD, FA, CN, PN, nI s, NT, CG, FK, FX, FY, FZ, KC, RG, CE, RT, OO, OA, OB, OC, BS, BL, upd HC s (nI n), SC, ho_K H', ho_X H', ho_Y H', ho_Z H', ho_I H', ho_R H', ho_G H', ho_S H', ZR, sn_K Z, sn_X Z, sn_Y Z, sn_Z Z, TM, PA, PV, HO, CO, CV, NZ, NE', KB, KO, KT)) : wpX_dropUnneeded post (PG, FB, CT, SD, FA, CN, PN, nI s, NT, CG, FK, FX, FY, FZ, KC, RG, CE, RT, OO, OA, OB, OC, BS, BL, HC, SC, ho_K H, ho_X H, ho_Y H, ho_Z H, ho_I H, ho_R H, ho_G H, ho_S H, ZR, sn_K Z, sn_X Z, sn_Y Z, sn_Z Z, TM, PA, PV, HO, CO, CV, NZ, NE, KB, KO, KT) := by
  have c4 : (nI s).toNatClampNeg = s := nI_clamp (by omega)
  have i4 : vp_in (nI s) 4 := vp_in_nI hs (by omega)
  unfold wpX_dropUnneeded
  dsimp only
  refine xw_mk hs hsc hsc8 hr (fun N hN => ?_)
  have e2 : nI (16 * s) + HC (nI s).toNatClampNeg - 1 = nI (16 * s + m) - 1 := by rw [c4, hm, nI_add]
  have w := xw_dr26 (post := post) (PG := PG) (FB := FB) (CT := CT) (SD := SD) (FA := FA) (CN := CN) (PN := PN) (NT := NT) (CG := CG) (FK := FK) (FX := FX) (FY := FY) (FZ := FZ) (KC := KC) (RG := RG) (CE := CE) (RT := RT) (OO := OO) (OA := OA) (OB := OB) (OC := OC) (BS := BS) (BL := BL) (HC := HC) (SC := SC) (ZR := ZR) (TM := TM) (PA := PA) (PV := PV) (HO := HO) (CO := CO) (CV := CV) (NZ := NZ) (KB := KB) (KO := KO) (KT := KT) (Z := Z) (N := N) (Hb := H) hs hm2 hin (fun NE' H' h1 h2 => ⟨m + 1, xw_dr110 (Hm := H') hs hm hm2 (fun n H'' n1 n2 n3 => K n H'' N NE' n1 hN (by rw [n2, h1]; exact ho_fi_mk _ hk0) (fun i hi => by rw [n3 i hi]; exact h2 i hi)) m 0 0 H' (Nat.zero_add m) (Nat.le_refl _) rfl (fun _ _ => rfl) (fun _ _ => rfl)⟩) m H (Nat.le_refl _) (by rw [Nat.sub_self]; rfl) (fun _ _ => rfl)
  rw [Nat.sub_self] at w
  exact nm_r (pk_mul 16 s) (And.intro i4 (nm_r e2 ⟨m + 1, w⟩))
end
end
section
section
/-! hoistLoads -/
variable {PG FB CT SD FA CN PN SL NT CG FK FX FY FZ KC : Int32} {RG CE RT OO OA OB OC BS BL HC SC ZR TM PA PV HO CO CV NZ NE KB KO KT : Nat → Int32} {H : Nat → ho_Op} {Z : Nat → ho_Sn}
def ho_sw (H : Nat → ho_Op) (i : Nat) : Nat → ho_Op := ho_up (ho_up H i (H (i + 1))) (i + 1) (H i)
theorem xw_swap {post : SX → Prop} {p : Nat} (hp : p + 1 < 64) (h : post (PG, FB, CT, SD, FA, CN, PN, SL, NT, CG, FK, FX, FY, FZ, KC, RG, CE, RT, OO, OA, OB, OC, BS, BL, HC, SC, ho_K (ho_sw H p), ho_X (ho_sw H p), ho_Y (ho_sw H p), ho_Z (ho_sw H p), ho_I (ho_sw H p), ho_R (ho_sw H p), ho_G (ho_sw H p), ho_S (ho_sw H p), ZR, sn_K Z, sn_X Z, sn_Y Z, sn_Z Z, TM, PA, PV, HO, CO, CV, NZ, NE, KB, KO, KT)) : wpX_swapOperations post (PG, FB, CT, SD, FA, CN, PN, SL, NT, CG, FK, FX, FY, FZ, KC, RG, CE, RT, OO, OA, OB, OC, BS, BL, HC, SC, ho_K H, ho_X H, ho_Y H, ho_Z H, ho_I H, ho_R H, ho_G H, ho_S H, ZR, sn_K Z, sn_X Z, sn_Y Z, sn_Z Z, TM, PA, PV, HO, CO, CV, NZ, NE, KB, KO, KT) (nI p) (nI (p + 1)) := by
  have ip : vp_in (nI p) 64 := vp_in_nI (by omega) (by omega)
  have iq : vp_in (nI (p + 1)) 64 := vp_in_nI (by omega) (by omega)
  have cp : (nI p).toNatClampNeg = p := nI_clamp (by omega)
  have cq : (nI (p + 1)).toNatClampNeg = p + 1 := nI_clamp (by omega)
  have e1 : upd (ho_K (ho_up H p (H (p + 1)))) (nI (p + 1)).toNatClampNeg (ho_K H (nI p).toNatClampNeg) = ho_K (ho_sw H p) := ho_upf oq_k cq (by rw [cp])
  have e2 : upd (ho_X (ho_up H p (H (p + 1)))) (nI (p + 1)).toNatClampNeg (ho_X H (nI p).toNatClampNeg) = ho_X (ho_sw H p) := ho_upf oq_x cq (by rw [cp])
  have e3 : upd (ho_Y (ho_up H p (H (p + 1)))) (nI (p + 1)).toNatClampNeg (ho_Y H (nI p).toNatClampNeg) = ho_Y (ho_sw H p) := ho_upf oq_y cq (by rw [cp])
  have e4 : upd (ho_Z (ho_up H p (H (p + 1)))) (nI (p + 1)).toNatClampNeg (ho_Z H (nI p).toNatClampNeg) = ho_Z (ho_sw H p) := ho_upf oq_z cq (by rw [cp])
  have e5 : upd (ho_I (ho_up H p (H (p + 1)))) (nI (p + 1)).toNatClampNeg (ho_I H (nI p).toNatClampNeg) = ho_I (ho_sw H p) := ho_upf oq_i cq (by rw [cp])
  have e6 : upd (ho_R (ho_up H p (H (p + 1)))) (nI (p + 1)).toNatClampNeg (ho_R H (nI p).toNatClampNeg) = ho_R (ho_sw H p) := ho_upf oq_r cq (by rw [cp])
  have e7 : upd (ho_G (ho_up H p (H (p + 1)))) (nI (p + 1)).toNatClampNeg (ho_G H (nI p).toNatClampNeg) = ho_G (ho_sw H p) := ho_upf oq_g cq (by rw [cp])
  have e8 : upd (ho_S (ho_up H p (H (p + 1)))) (nI (p + 1)).toNatClampNeg (ho_S H (nI p).toNatClampNeg) = ho_S (ho_sw H p) := ho_upf oq_s cq (by rw [cp])
  refine And.intro ip (nm_e (And.intro ip (nm_e (And.intro ip (nm_e (And.intro ip (nm_e (And.intro ip (nm_e (And.intro ip (nm_e (And.intro ip (nm_e (And.intro ip (nm_e (xw_copy (by omega) (by omega) ?_))))))))))))))))
  exact And.intro iq (nm_r e1 (And.intro iq (nm_r e2 (And.intro iq (nm_r e3 (And.intro iq (nm_r e4 (And.intro iq (nm_r e5 (And.intro iq (nm_r e6 (And.intro iq (nm_r e7 (And.intro iq (nm_r e8 h)))))))))))))))
theorem xw_ho47 {post : SX → Prop} {J : _} {s m p : Nat} {P : (Nat → ho_Op) → Prop} (hs : s < 4) (hm : m ≤ 16) (hp : p < 16 * s + m)
    (hsw : ∀ (H : Nat → ho_Op) (i : Nat), 16 * s ≤ i → i + 1 < 16 * s + m → P H → oq_s (H i) < 0 → oq_r (H i) ≠ oq_x (H (i + 1)) → oq_k (H (i + 1)) = 9 → P (ho_sw H i))
    (K : ∀ H : Nat → ho_Op, P H → J (nI (p + 1)) PG FB CT SD FA CN PN SL NT CG FK FX FY FZ KC RG CE RT OO OA OB OC BS BL HC SC (ho_K H) (ho_X H) (ho_Y H) (ho_Z H) (ho_I H) (ho_R H) (ho_G H) (ho_S H) ZR (sn_K Z) (sn_X Z) (sn_Y Z) (sn_Z Z) TM PA PV HO CO CV NZ NE KB KO KT) :
    ∀ (d : Nat) (H : Nat → ho_Op) (r : Int32), P H → (¬ r = 0 → oq_k (H (16 * s + d)) = 9) → 16 * s + d ≤ p → wX_hoistLoads_47 post J (nI (16 * s)) (nI p) (d + 1) r (nI (16 * s + d)) PG FB CT SD FA CN PN SL NT CG FK FX FY FZ KC RG CE RT OO OA OB OC BS BL HC SC (ho_K H) (ho_X H) (ho_Y H) (ho_Z H) (ho_I H) (ho_R H) (ho_G H) (ho_S H) ZR (sn_K Z) (sn_X Z) (sn_Y Z) (sn_Z Z) TM PA PV HO CO CV NZ NE KB KO KT := by
  intro d
  induction d with
  | zero =>
    intro H r hP hr hd
    exact br_t (nI_le (by omega) (by omega)) (nm_r (nI_1 p) (K H hP))
  | succ d ih =>
    intro H r hP hr hd
    have ex : nI (16 * s + (d + 1)) - 1 = nI (16 * s + d) := nI_pred (16 * s + d)
    have em : nI (16 * s + (d + 1)) + (-1) = nI (16 * s + d) := pk_m1 (16 * s + d)
    have cq : (nI (16 * s + (d + 1))).toNatClampNeg = 16 * s + d + 1 := nI_clamp (by omega)
    have cx : (nI (16 * s + (d + 1)) - 1).toNatClampNeg = 16 * s + d := by rw [ex]; exact nI_clamp (by omega)
    have ix : vp_in (nI (16 * s + (d + 1)) - 1) 64 := by rw [ex]; exact vp_in_nI (by omega) (by omega)
    have iq : vp_in (nI (16 * s + (d + 1))) 64 := vp_in_nI (by omega) (by omega)
    have stay := ih H 0 hP (fun z => absurd rfl z) (by omega)
    refine br_f (nI_ge (by omega) (by omega)) (br_c (fun _ => nm_r (nI_1 p) (K H hP)) (fun r0 => And.intro ix (br_c (fun _ => br_t rfl (nm_r em stay)) (fun a => And.intro ix (And.intro iq (br_c (fun _ => br_t rfl (nm_r em stay)) (fun b => br_f (by decide) ?_)))))))
    rw [ex]
    have a' : oq_s (H (16 * s + d)) < 0 := by rw [← cx]; exact Int32.not_le.mp a
    have b' : oq_r (H (16 * s + d)) ≠ oq_x (H (16 * s + d + 1)) := by
      intro z
      apply b
      show oq_r (H (nI (16 * s + (d + 1)) - 1).toNatClampNeg) = oq_x (H (nI (16 * s + (d + 1))).toNatClampNeg)
      rw [cx, cq]
      exact z
    refine xw_swap (by omega) (nm_r em (ih (ho_sw H (16 * s + d)) 1 (hsw H (16 * s + d) (by omega) (by omega) hP a' b' (hr r0)) (fun _ => ?_) (by omega)))
    show oq_k (ho_up (ho_up H (16 * s + d) (H (16 * s + d + 1))) (16 * s + d + 1) (H (16 * s + d)) (16 * s + d)) = 9
    rw [ho_upn (by omega), ho_ups]
    exact hr r0
theorem xw_ho12 {post : SX → Prop} {s m : Nat} {P : (Nat → ho_Op) → Prop} (hs : s < 4) (hm : HC s = nI m) (hm2 : m ≤ 16)
    (hsw : ∀ (H : Nat → ho_Op) (i : Nat), 16 * s ≤ i → i + 1 < 16 * s + m → P H → oq_s (H i) < 0 → oq_r (H i) ≠ oq_x (H (i + 1)) → oq_k (H (i + 1)) = 9 → P (ho_sw H i))
    (K : ∀ H : Nat → ho_Op, P H → post (PG, FB, CT, SD, FA, CN, PN, nI s, NT, CG, FK, FX, FY, FZ, KC, RG, CE, RT, OO, OA, OB, OC, BS, BL, HC, SC, ho_K H, ho_X H, ho_Y H, ho_Z H, ho_I H, ho_R H, ho_G H, ho_S H, ZR, sn_K Z, sn_X Z, sn_Y Z, sn_Z Z, TM, PA, PV, HO, CO, CV, NZ, NE, KB, KO, KT)) :
    ∀ (d p : Nat) (H : Nat → ho_Op), 16 * s + m ≤ p + d → 16 * s ≤ p → p ≤ 16 * s + 17 → P H → wX_hoistLoads_12 post (nI (16 * s)) (d + 1) (nI p) PG FB CT SD FA CN PN (nI s) NT CG FK FX FY FZ KC RG CE RT OO OA OB OC BS BL HC SC (ho_K H) (ho_X H) (ho_Y H) (ho_Z H) (ho_I H) (ho_R H) (ho_G H) (ho_S H) ZR (sn_K Z) (sn_X Z) (sn_Y Z) (sn_Z Z) TM PA PV HO CO CV NZ NE KB KO KT := by
  have c4 : (nI s).toNatClampNeg = s := nI_clamp (by omega)
  have i4 : vp_in (nI s) 4 := vp_in_nI hs (by omega)
  have e2 : nI (16 * s) + HC (nI s).toNatClampNeg = nI (16 * s + m) := by rw [c4, hm]; exact nI_add _ _
  intro d
  induction d with
  | zero =>
    intro p H hd hp hp2 hP
    have hle : nI (16 * s) + HC (nI s).toNatClampNeg ≤ nI p := by rw [e2]; exact nI_le (by omega) (by omega)
    exact And.intro i4 (br_t hle (K H hP))
  | succ d ih =>
    intro p H hd hp hp2 hP
    by_cases c : 16 * s + m ≤ p
    · have hle : nI (16 * s) + HC (nI s).toNatClampNeg ≤ nI p := by rw [e2]; exact nI_le (by omega) (by omega)
      exact And.intro i4 (br_t hle (K H hP))
    · have hle : ¬ nI (16 * s) + HC (nI s).toNatClampNeg ≤ nI p := by rw [e2]; exact nI_ge (by omega) (by omega)
      have ip : vp_in (nI p) 64 := vp_in_nI (by omega) (by omega)
      have cp : (nI p).toNatClampNeg = p := nI_clamp (by omega)
      have es : 16 * s + (p - 16 * s) = p := by omega
      have w : ∀ r : Int32, (¬ r = 0 → oq_k (H p) = 9) → wX_hoistLoads_47 post (wX_hoistLoads_12 post (nI (16 * s)) (d + 1)) (nI (16 * s)) (nI p) (p - 16 * s + 1) r (nI p) PG FB CT SD FA CN PN (nI s) NT CG FK FX FY FZ KC RG CE RT OO OA OB OC BS BL HC SC (ho_K H) (ho_X H) (ho_Y H) (ho_Z H) (ho_I H) (ho_R H) (ho_G H) (ho_S H) ZR (sn_K Z) (sn_X Z) (sn_Y Z) (sn_Z Z) TM PA PV HO CO CV NZ NE KB KO KT := by
        intro r hr
        have w := xw_ho47 (post := post) (J := wX_hoistLoads_12 post (nI (16 * s)) (d + 1)) (SL := nI s) (PG := PG) (FB := FB) (CT := CT) (SD := SD) (FA := FA) (CN := CN) (PN := PN) (NT := NT) (CG := CG) (FK := FK) (FX := FX) (FY := FY) (FZ := FZ) (KC := KC) (RG := RG) (CE := CE) (RT := RT) (OO := OO) (OA := OA) (OB := OB) (OC := OC) (BS := BS) (BL := BL) (HC := HC) (SC := SC) (ZR := ZR) (TM := TM) (PA := PA) (PV := PV) (HO := HO) (CO := CO) (CV := CV) (NZ := NZ) (NE := NE) (KB := KB) (KO := KO) (KT := KT) (Z := Z) (p := p) (P := P) hs hm2 (by omega) hsw (fun H' hP' => ih (p + 1) H' (by omega) (by omega) (by omega) hP') (p - 16 * s) H r hP (by rw [es]; exact hr) (by omega)
        rw [es] at w
        exact w
      refine And.intro i4 (br_f hle (And.intro ip (br_c (fun a => ⟨_, w 1 (fun _ => ?_)⟩) (fun a => ⟨_, w 0 (fun z => absurd rfl z)⟩))))
      rw [← cp]
      exact a
theorem xw_hoist {post : SX → Prop} {s m : Nat} {P : (Nat → ho_Op) → Prop} (hs : s < 4) (hm : HC s = nI m) (hm2 : m ≤ 16)
    (hsw : ∀ (H : Nat → ho_Op) (i : Nat), 16 * s ≤ i → i + 1 < 16 * s + m → P H → oq_s (H i) < 0 → oq_r (H i) ≠ oq_x (H (i + 1)) → oq_k (H (i + 1)) = 9 → P (ho_sw H i))
    (hP : P H) (K : ∀ H : Nat → ho_Op, P H → post (PG, FB, CT, SD, FA, CN, PN, nI s, NT, CG, FK, FX, FY, FZ, KC, RG, CE, RT, OO, OA, OB, OC, BS, BL, HC, SC, ho_K H, ho_X H, ho_Y H, ho_Z H, ho_I H, ho_R H, ho_G H, ho_S H, ZR, sn_K Z, sn_X Z, sn_Y Z, sn_Z Z, TM, PA, PV, HO, CO, CV, NZ, NE, KB, KO, KT)) : wpX_hoistLoads post (PG, FB, CT, SD, FA, CN, PN, nI s, NT, CG, FK, FX, FY, FZ, KC, RG, CE, RT, OO, OA, OB, OC, BS, BL, HC, SC, ho_K H, ho_X H, ho_Y H, ho_Z H, ho_I H, ho_R H, ho_G H, ho_S H, ZR, sn_K Z, sn_X Z, sn_Y Z, sn_Z Z, TM, PA, PV, HO, CO, CV, NZ, NE, KB, KO, KT) :=
  nm_r (pk_mul 16 s) (nm_r (nI_1 (16 * s)) ⟨m + 1, xw_ho12 hs hm hm2 hsw K m (16 * s + 1) H (by omega) (by omega) (by omega) hP⟩)
end
end
section
section
/-! a finished block -/
theorem sn_ok_mono {Z : Nat → ho_Sn} {ZR V Re : Nat → Int32} {Fe s : Int32} {D D' : Nat → Prop} (h : ∀ t, D t → D' t) (a : sn_ok Z ZR V Re Fe s D) : sn_ok Z ZR V Re Fe s D' :=
  ⟨fun i hi => ⟨h _ (a.1 i hi).1, (a.1 i hi).2⟩, h _ a.2.1, h _ a.2.2.1, h _ a.2.2.2.1, a.2.2.2.2⟩
theorem sn_ok_cov {Z : Nat → ho_Sn} {ZR V Re N : Nat → Int32} {Fe s : Int32} {q : Nat} (hs : s.toNatClampNeg = q) (hk : mk_q Z ZR N q) : ho_cov N (sn_ok Z ZR V Re Fe s) := by
  intro D D' h a
  unfold sn_ok at a ⊢
  rw [hs] at a ⊢
  exact ⟨fun i hi => ⟨h _ (a.1 i hi).1 (hk.1 i hi), (a.1 i hi).2⟩, h _ a.2.1 hk.2.1, h _ a.2.2.1 hk.2.2.1, h _ a.2.2.2.1 hk.2.2.2, a.2.2.2.2⟩
def bk_op (s sc : Nat) (o : ho_Op) : Prop := op_in o ∧ (¬ oq_s o < 0 → ∃ q : Nat, 8 * s ≤ q ∧ q < 8 * s + sc ∧ oq_s o = nI q) ∧ (oq_s o < 0 → ho_plain o)
def bk_Q (Z : Nat → ho_Sn) (ZR V : Nat → Int32) (g : gu_G) (q : Nat) : (Nat → Prop) → (Nat → Int32) → Prop := fun D Mm => Mm = g.2.2 ∧ sn_ok Z ZR V g.1 g.2.1 (nI q) D
def bk_Dy (O A B C : Nat → Int32) (st n q : Nat) (Z : Nat → ho_Sn) (ZR : Nat → Int32) (l : List ho_Op) : Prop := ∀ (pg : Int32) (rt R : Nat → Int32) (F : Int32) (M : Nat → Int32), gu_pg pg →
  ((∀ i, i < n → gq_f pg rt O A B C st (R, F, M) i = 0) → ∃ V : Nat → Int32, (∀ i, i < 8 → V i = R i) ∧ V 8 = F ∧ ho_all pg rt V (bk_Q Z ZR V (gu_seq O A B C st (R, F, M) n) q) l (fun t => t < 9) M) ∧
  (∀ (e : Nat) (code : Int32), e < n → code ≠ 0 → (∀ i, i < e → gq_f pg rt O A B C st (R, F, M) i = 0) → gq_f pg rt O A B C st (R, F, M) e = code → tr_B pg rt O A B C st R F M Z ZR e code l)
def bk_Ok (O A B C : Nat → Int32) (st n s m sc : Nat) (H : Nat → ho_Op) (Z : Nat → ho_Sn) (ZR : Nat → Int32) : Prop := m ≤ 16 ∧ 1 ≤ sc ∧ sc ≤ 8 ∧ (∀ o, o ∈ ho_seg H (16 * s) m → bk_op s sc o) ∧ sn_in s sc Z ZR ∧ bk_Dy O A B C st n (8 * s + sc - 1) Z ZR (ho_seg H (16 * s) m) ∧ ho_cnt (ho_seg H (16 * s) m) ≤ 7
variable {O A B C : Nat → Int32} {st n s m sc q : Nat} {H H' : Nat → ho_Op} {Z Z' : Nat → ho_Sn} {ZR ZR' : Nat → Int32}
theorem bk_Q_mono {V : Nat → Int32} {g : gu_G} (D D' : Nat → Prop) (M : Nat → Int32) (h : ∀ t, D t → D' t) (a : bk_Q Z ZR V g q D M) : bk_Q Z ZR V g q D' M := ⟨a.1, sn_ok_mono h a.2⟩
theorem bk_Dy_swap {p l : List ho_Op} {N L : ho_Op} (hL : ¬ oq_s L < 0) (kL : oq_k L = 9) (sN : oq_s N < 0) (ne : (oq_x L).toNatClampNeg ≠ (oq_r N).toNatClampNeg) (h : bk_Dy O A B C st n q Z ZR (p ++ N :: L :: l)) : bk_Dy O A B C st n q Z ZR (p ++ L :: N :: l) := by
  intro pg rt R F M hp
  obtain ⟨h1, h2⟩ := h pg rt R F M hp
  refine ⟨fun nf => ?_, fun e code he hc nf hf => ?_⟩
  · obtain ⟨V, v1, v2, r⟩ := h1 nf
    exact ⟨V, v1, v2, ho_run_ctx (fun M s D r => ho_rec_swap hL r) (fun D M r => ho_run_swap (fun _ _ _ _ z => z) bk_Q_mono hL kL sN ne r) p _ _ r⟩
  · obtain ⟨V, v1, v2, r⟩ := h2 e code he hc nf hf
    refine ⟨V, v1, v2, ?_⟩
    refine ho_run_ctx ?_ ?_ p _ _ r
    · intro M s D r
      exact ho_rec_swap hL r
    · intro D M r
      refine ho_run_swap ?_ ?_ hL kL sN ne r
      · intro s D D' w z
        exact sn_ok_mono w z
      · intro D D' M _ z
        exact z
theorem bk_Dy_drop {N : Nat → Int32} {l : List ho_Op} (hq : 8 * s ≤ q ∧ q < 8 * s + sc) (hs : s < 4) (hsc : sc ≤ 8) (hN : ∀ q, 8 * s ≤ q → q < 8 * s + sc → mk_q Z ZR N q) (hl : ∀ o, o ∈ l → bk_op s sc o) (h : bk_Dy O A B C st n q Z ZR l) : bk_Dy O A B C st n q Z ZR (ho_kp N l) := by
  intro pg rt R F M hp
  obtain ⟨h1, h2⟩ := h pg rt R F M hp
  refine ⟨fun nf => ?_, fun e code he hc nf hf => ?_⟩
  · obtain ⟨V, v1, v2, r⟩ := h1 nf
    refine ⟨V, v1, v2, ho_run_drop (N := N) (fun Mm D D' w z => ⟨z.1, sn_ok_cov (nI_clamp (by omega)) (hN q hq.1 hq.2) D D' w z.2⟩) l _ _ _ (fun o ho hs D D' w z => z.elim) (fun t ht _ => ht) r⟩
  · obtain ⟨V, v1, v2, r⟩ := h2 e code he hc nf hf
    refine ⟨V, v1, v2, ho_run_drop (N := N) (fun Mm D D' w z => z.elim) l _ _ _ (fun o ho hs => ?_) (fun t ht _ => ht) r⟩
    obtain ⟨q', q1, q2, q3⟩ := (hl o ho).2.1 hs
    exact sn_ok_cov (by rw [q3]; exact nI_clamp (by omega)) (hN q' q1 q2)
theorem bk_Dy_c {l : List ho_Op} (hq : 8 * s ≤ q ∧ q < 8 * s + sc) (hs : s < 4) (hsc : sc ≤ 8) (hZ : ∀ q, 8 * s ≤ q → q < 8 * s + sc → Z' q = Z q ∧ ∀ i, i < 8 → ZR' (8 * q + i) = ZR (8 * q + i)) (hl : ∀ o, o ∈ l → bk_op s sc o) (h : bk_Dy O A B C st n q Z ZR l) : bk_Dy O A B C st n q Z' ZR' l := by
  intro pg rt R F M hp
  obtain ⟨h1, h2⟩ := h pg rt R F M hp
  refine ⟨fun nf => ?_, fun e code he hc nf hf => ?_⟩
  · obtain ⟨V, v1, v2, r⟩ := h1 nf
    have cq : (nI q).toNatClampNeg = q := nI_clamp (by omega)
    exact ⟨V, v1, v2, ho_all_imp (fun D Mm z => ⟨z.1, sn_ok_c (by rw [cq]; exact (hZ q hq.1 hq.2).1) (by rw [cq]; exact (hZ q hq.1 hq.2).2) z.2⟩) l _ _ r⟩
  · obtain ⟨V, v1, v2, r⟩ := h2 e code he hc nf hf
    refine ⟨V, v1, v2, ?_⟩
    have w := ho_run_app (l2 := []) (S' := sn_ok Z' ZR' V (gu_seq O A B C st (R, F, M) e).1 (gu_seq O A B C st (R, F, M) e).2.1) (fun o ho => by cases ho) l _ _ (fun o ho hs D hd => ?_) r
    · rw [List.append_nil] at w
      exact w
    · obtain ⟨q', q1, q2, q3⟩ := (hl o ho).2.1 hs
      have cq : (oq_s o).toNatClampNeg = q' := by rw [q3]; exact nI_clamp (by omega)
      exact sn_ok_c (by rw [cq]; exact (hZ q' q1 q2).1) (by rw [cq]; exact (hZ q' q1 q2).2) hd
theorem bk_Ok_c (hs : s < 4) (hH : ∀ j, 16 * s ≤ j → j < 16 * s + 16 → H' j = H j) (hZ : ∀ j, 8 * s ≤ j → j < 8 * s + 8 → Z' j = Z j) (hR : ∀ j, 64 * s ≤ j → j < 64 * s + 64 → ZR' j = ZR j) (h : bk_Ok O A B C st n s m sc H Z ZR) : bk_Ok O A B C st n s m sc H' Z' ZR' := by
  obtain ⟨h1, h2, h3, h4, h5, h6, h7⟩ := h
  have es : ho_seg H' (16 * s) m = ho_seg H (16 * s) m := ho_seg_c m (16 * s) (fun j j1 j2 => hH j j1 (by omega))
  have hZ' : ∀ q, 8 * s ≤ q → q < 8 * s + sc → Z' q = Z q ∧ ∀ i, i < 8 → ZR' (8 * q + i) = ZR (8 * q + i) := fun q q1 q2 => ⟨hZ q q1 (by omega), fun i hi => hR _ (by omega) (by omega)⟩
  refine ⟨h1, h2, h3, by rw [es]; exact h4, fun q q1 q2 => ?_, by rw [es]; exact bk_Dy_c (s := s) (sc := sc) (by omega) hs h3 hZ' h4 h6, by rw [es]; exact h7⟩
  have w := h5 q q1 q2
  obtain ⟨z1, z2⟩ := hZ' q q1 q2
  refine ⟨fun i hi => by rw [z2 i hi]; exact w.1 i hi, ?_, ?_, ?_⟩
  · show vp_in (Z' q).2.1 32
    rw [z1]; exact w.2.1
  · show vp_in (Z' q).2.2.1 32
    rw [z1]; exact w.2.2.1
  · show vp_in (Z' q).2.2.2 32
    rw [z1]; exact w.2.2.2
theorem ho_kp_m {N : Nat → Int32} {o : ho_Op} : ∀ (l : List ho_Op), o ∈ ho_kp N l → o ∈ l
  | [], h => h
  | p :: l, h => by
    by_cases k : ho_kb (ho_nd N l) p = true
    · have e : ho_kp N (p :: l) = p :: ho_kp N l := if_pos k
      rw [e] at h
      rcases List.mem_cons.mp h with z | z
      · exact List.mem_cons.mpr (Or.inl z)
      · exact List.mem_cons.mpr (Or.inr (ho_kp_m l z))
    · have e : ho_kp N (p :: l) = ho_kp N l := if_neg k
      rw [e] at h
      exact List.mem_cons.mpr (Or.inr (ho_kp_m l h))
theorem ho_seg_sw {i : Nat} (h1 : 16 * s ≤ i) (h2 : i + 1 < 16 * s + m) : ∃ p l, ho_seg H (16 * s) m = p ++ H i :: H (i + 1) :: l ∧ ho_seg (ho_sw H i) (16 * s) m = p ++ H (i + 1) :: H i :: l := by
  obtain ⟨t, rfl⟩ : ∃ t, i = 16 * s + t := ⟨i - 16 * s, by omega⟩
  obtain ⟨r, rfl⟩ : ∃ r, m = t + (r + 2) := ⟨m - t - 2, by omega⟩
  refine ⟨ho_seg H (16 * s) t, ho_seg H (16 * s + t + 1 + 1) r, ?_, ?_⟩
  · rw [ho_seg_a]
    rfl
  · rw [ho_seg_a]
    show ho_seg (ho_sw H (16 * s + t)) (16 * s) t ++ ho_sw H (16 * s + t) (16 * s + t) :: ho_sw H (16 * s + t) (16 * s + t + 1) :: ho_seg (ho_sw H (16 * s + t)) (16 * s + t + 1 + 1) r = _
    have a1 : ho_sw H (16 * s + t) (16 * s + t) = H (16 * s + t + 1) := by
      unfold ho_sw
      rw [ho_upn (by omega), ho_ups]
    have a2 : ho_sw H (16 * s + t) (16 * s + t + 1) = H (16 * s + t) := by
      unfold ho_sw
      rw [ho_ups]
    have a3 : ∀ j, j ≠ 16 * s + t → j ≠ 16 * s + t + 1 → ho_sw H (16 * s + t) j = H j := by
      intro j j1 j2
      unfold ho_sw
      rw [ho_upn j2, ho_upn j1]
    rw [a1, a2, ho_seg_c (H := ho_sw H (16 * s + t)) (H' := H) t (16 * s) (fun j j1 j2 => a3 j (by omega) (by omega)), ho_seg_c (H := ho_sw H (16 * s + t)) (H' := H) r (16 * s + t + 1 + 1) (fun j j1 j2 => a3 j (by omega) (by omega))]
theorem ho_sw_o {i j : Nat} (h1 : 16 * s ≤ i) (h2 : i + 1 < 16 * s + 16) (hj : j < 16 * s ∨ 16 * s + 16 ≤ j) : ho_sw H i j = H j := by
  unfold ho_sw
  rw [ho_upn (by omega), ho_upn (by omega)]
end
section
variable {OO OA OB OC : Nat → Int32} {st n s m nt sc kc : Nat} {H0 H : Nat → ho_Op} {C0 D0 HC SC : Nat → Int32} {Z0 Z : Nat → ho_Sn} {R0 ZR HO : Nat → Int32} {FK FX FY FZ : Int32} {CO CV NZ KB KO KT : Nat → Int32}
theorem tr_bkop (h : tr_T OO OA OB OC st n s m nt sc kc H0 C0 D0 Z0 R0 H HC SC Z ZR HO FK FX FY FZ CO CV NZ KB KO KT) (hn : n ≤ 7) : ∀ o, o ∈ ho_seg H (16 * s) m → bk_op s (sc + 1) o ∧ ¬ oq_k o < 0 := by
  intro o ho
  have hsz := h.1.2.1
  unfold tr_Sz at hsz
  have hm := h.2.1
  obtain ⟨a1, a2, a3, a4, a5, a6⟩ := h.1.2.2.1 o ho
  have nt32 : nt ≤ 32 := by omega
  refine ⟨⟨⟨vi_mono a1.1 nt32, vi_mono a1.2.1 nt32, vi_mono a1.2.2.1 nt32, ?_⟩, fun z => ?_, a6⟩, a3⟩
  · by_cases k : oq_k o = 10
    · rw [a2 k]
      exact vp_in_nI (n := 31) (by omega) (by omega)
    · exact vi_mono (a1.2.2.2 k) nt32
  · obtain ⟨q, q1, q2, q3⟩ := a5 z
    exact ⟨q, q1, by omega, q3⟩
/-- the translated list, with the last snapshot, does what the guest does -/
theorem tr_Dy (hs : s < 4) (hn : n ≤ 7) (h : tr_T OO OA OB OC st n s m nt sc kc H0 C0 D0 Z0 R0 H HC SC Z ZR HO FK FX FY FZ CO CV NZ KB KO KT) : bk_Dy OO OA OB OC st n (8 * s + sc) (sn_up Z (8 * s + sc) (FK, FX, FY, FZ)) (sn_wr ZR (8 * s + sc) HO 8) (ho_seg H (16 * s) m) := by
  obtain ⟨h1, h2, h3, h4, h5, _⟩ := h
  have hHm := h1.2.2.2.1
  intro pg rt R F M hp
  obtain ⟨g1, g2⟩ := h5 pg rt R F M hp
  refine ⟨fun nf => ?_, fun e code he hc nf hf => ?_⟩
  · obtain ⟨V, A⟩ := g1 nf
    refine ⟨V, A.1, A.2.1, ho_all_imp (fun D Mm z => ⟨z.2, ?_⟩) _ _ _ A.2.2.1⟩
    have cq : (nI (8 * s + sc)).toNatClampNeg = 8 * s + sc := nI_clamp (by omega)
    unfold sn_ok
    rw [cq]
    obtain ⟨q1, _⟩ := z
    refine ⟨fun i hi => ?_, ?_, ?_, ?_, ?_⟩
    · rw [sn_wr_at hi]
      exact ⟨q1 _ (vi_lt (hHm.1 i hi)), (A.2.2.2.1 i hi).symm⟩
    · show D (sn_up Z (8 * s + sc) (FK, FX, FY, FZ) (8 * s + sc)).2.1.toNatClampNeg
      rw [sn_ups]; exact q1 _ (vi_lt hHm.2.1)
    · show D (sn_up Z (8 * s + sc) (FK, FX, FY, FZ) (8 * s + sc)).2.2.1.toNatClampNeg
      rw [sn_ups]; exact q1 _ (vi_lt hHm.2.2.1)
    · show D (sn_up Z (8 * s + sc) (FK, FX, FY, FZ) (8 * s + sc)).2.2.2.toNatClampNeg
      rw [sn_ups]; exact q1 _ (vi_lt hHm.2.2.2)
    · show (gu_seq OO OA OB OC st (R, F, M) n).2.1 = sn_f V (sn_up Z (8 * s + sc) (FK, FX, FY, FZ) (8 * s + sc)).1 (sn_up Z (8 * s + sc) (FK, FX, FY, FZ) (8 * s + sc)).2.1 (sn_up Z (8 * s + sc) (FK, FX, FY, FZ) (8 * s + sc)).2.2.1 (sn_up Z (8 * s + sc) (FK, FX, FY, FZ) (8 * s + sc)).2.2.2
      rw [sn_ups]; exact A.2.2.2.2.1
  · obtain ⟨V, v1, v2, r⟩ := g2 e code he hc nf hf
    refine ⟨V, v1, v2, ?_⟩
    have w := ho_run_app (l2 := []) (S' := sn_ok (sn_up Z (8 * s + sc) (FK, FX, FY, FZ)) (sn_wr ZR (8 * s + sc) HO 8) V (gu_seq OO OA OB OC st (R, F, M) e).1 (gu_seq OO OA OB OC st (R, F, M) e).2.1) (fun o ho => by cases ho) _ _ _ (fun o ho hs D hd => ?_) r
    · rw [List.append_nil] at w
      exact w
    · obtain ⟨q', q1, q2, q3⟩ := (h1.2.2.1 o ho).2.2.2.2.1 hs
      have cq : (oq_s o).toNatClampNeg = q' := by rw [q3]; exact nI_clamp (by omega)
      have kk := tr_snkeep (Z := Z) (ZR := ZR) (HO := HO) (FK := FK) (FX := FX) (FY := FY) (FZ := FZ) q' q1 q2
      exact sn_ok_c (by rw [cq]; exact kk.1) (by rw [cq]; exact kk.2) hd
end
end
section
section
/-! translate and blockFor -/
variable {PG FB CT SD FA CN PN SL NT CG FK FX FY FZ KC : Int32} {RG CE RT OO OA OB OC BS BL HC SC ZR TM PA PV HO CO CV NZ NE KB KO KT : Nat → Int32} {H : Nat → ho_Op} {Z : Nat → ho_Sn}
variable {s lg st cn n m nt sc kc : Nat} {H0 : Nat → ho_Op} {C0 D0 : Nat → Int32} {Z0 : Nat → ho_Sn} {R0 : Nat → Int32}
def bk_Fr (s : Nat) (H0 : Nat → ho_Op) (C0 D0 : Nat → Int32) (Z0 : Nat → ho_Sn) (R0 : Nat → Int32) (H : Nat → ho_Op) (HC SC : Nat → Int32) (Z : Nat → ho_Sn) (ZR : Nat → Int32) : Prop := tr_Fr s H0 C0 D0 Z0 R0 H HC SC Z ZR
theorem tr_113 {post : SX → Prop} (hs : s < 4) (hT : tr_T OO OA OB OC st n s m nt sc kc H0 C0 D0 Z0 R0 H HC SC Z ZR HO FK FX FY FZ CO CV NZ KB KO KT) (hC : bk_C n lg st cn OO)
    (K : ∀ (m sc : Nat) (H' : Nat → ho_Op) (HC' SC' : Nat → Int32) (Z' : Nat → ho_Sn) (ZR' NE' : Nat → Int32), bk_Ok OO OA OB OC st n s m sc H' Z' ZR' → HC' s = nI m → SC' s = nI sc → tr_Fr s H0 C0 D0 Z0 R0 H' HC' SC' Z' ZR' → post (PG, FB, nI st, SD, FA, CN, PN, nI s, nI nt, CG, FK, FX, FY, FZ, nI kc, RG, CE, RT, OO, OA, OB, OC, upd BS s (nI st), upd BL s (nI n), HC', SC', ho_K H', ho_X H', ho_Y H', ho_Z H', ho_I H', ho_R H', ho_G H', ho_S H', ZR', sn_K Z', sn_X Z', sn_Y Z', sn_Z Z', TM, PA, PV, HO, CO, CV, NZ, NE', KB, KO, KT)) : wX_translate_113 post (nI s) (nI n) PG FB (nI st) SD FA CN PN (nI s) (nI nt) CG FK FX FY FZ (nI kc) RG CE RT OO OA OB OC BS BL HC SC (ho_K H) (ho_X H) (ho_Y H) (ho_Z H) (ho_I H) (ho_R H) (ho_G H) (ho_S H) ZR (sn_K Z) (sn_X Z) (sn_Y Z) (sn_Z Z) TM PA PV HO CO CV NZ NE KB KO KT := by
  have c4 : (nI s).toNatClampNeg = s := nI_clamp (by omega)
  have i4 : vp_in (nI s) 4 := vp_in_nI hs (by omega)
  have hn7 := hC.2.1
  have hsz := hT.1.2.1
  unfold tr_Sz at hsz
  have hHm := hT.1.2.2.2.1
  have hm := hT.2.1
  have hsc := hT.2.2.1
  have nt32 : nt ≤ 32 := by omega
  have e1 : upd BS (nI s).toNatClampNeg (nI st) = upd BS s (nI st) := by rw [c4]
  have e2 : upd BL (nI s).toNatClampNeg (nI n) = upd BL s (nI n) := by rw [c4]
  have bo := tr_bkop hT hn7
  have dy := tr_Dy hs hn7 hT
  have sn := tr_St_snap (FK := FK) hT.1 (by omega) (by omega)
  have hr : sn_in s (sc + 1) (sn_up Z (8 * s + sc) (FK, FX, FY, FZ)) (sn_wr ZR (8 * s + sc) HO 8) := by
    intro q q1 q2
    have w := sn.2.2.2.2.2.2 q q1 q2
    exact ⟨fun i hi => vi_mono (w.1 i hi) nt32, vi_mono w.2.1 nt32, vi_mono w.2.2.1 nt32, vi_mono w.2.2.2 nt32⟩
  refine And.intro i4 (nm_r e1 (And.intro i4 (nm_r e2 ?_)))
  refine xw_snap hs hsz.2.1 (by omega) (fun i hi => vi_mono (hHm.1 i hi) nt32) ?_
  refine xw_drop (m := m) (sc := sc + 1) hs hsz.1 (by omega) pk_us (by omega) hr (fun j hj => (bo _ (ho_seg_i hj)).1.1) (fun o ho => (bo o ho).2) (fun n2 H1 N NE1 d1 d2 d3 d4 => ?_)
  have bo1 : ∀ o, o ∈ ho_seg H1 (16 * s) n2 → bk_op s (sc + 1) o := by
    intro o ho
    rw [d3] at ho
    exact (bo o (ho_kp_m _ ho)).1
  have dy1 : bk_Dy OO OA OB OC st n (8 * s + sc) (sn_up Z (8 * s + sc) (FK, FX, FY, FZ)) (sn_wr ZR (8 * s + sc) HO 8) (ho_seg H1 (16 * s) n2) := by
    rw [d3]
    exact bk_Dy_drop (s := s) (sc := sc + 1) (by omega) hs (by omega) d2 (fun o ho => (bo o ho).1) dy
  refine xw_hoist (m := n2) (P := fun H2 => (∀ j, (j < 16 * s ∨ 16 * s + 16 ≤ j) → H2 j = H1 j) ∧ (∀ o, o ∈ ho_seg H2 (16 * s) n2 → bk_op s (sc + 1) o) ∧ bk_Dy OO OA OB OC st n (8 * s + sc) (sn_up Z (8 * s + sc) (FK, FX, FY, FZ)) (sn_wr ZR (8 * s + sc) HO 8) (ho_seg H2 (16 * s) n2) ∧ ho_cnt (ho_seg H2 (16 * s) n2) ≤ 7) hs pk_us (by omega) ?_ ⟨fun _ _ => rfl, bo1, dy1, by rw [d3]; have := ho_cnt_kp N (ho_seg H (16 * s) m); have := hT.2.2.2.2.2; omega⟩ (fun H2 hP => ?_)
  · intro H2 i i1 i2 hP a b c
    obtain ⟨p1, p2, p3, p4⟩ := hP
    obtain ⟨p, l, s1, s2⟩ := ho_seg_sw (H := H2) i1 i2
    rw [s1] at p2 p3 p4
    have bL := p2 (H2 (i + 1)) (List.mem_append.mpr (Or.inr (List.mem_cons.mpr (Or.inr (List.mem_cons.mpr (Or.inl rfl))))))
    have bN := p2 (H2 i) (List.mem_append.mpr (Or.inr (List.mem_cons.mpr (Or.inl rfl))))
    refine ⟨fun j hj => ?_, fun o ho => ?_, ?_, by rw [s2, ho_cnt_sw]; exact p4⟩
    · rw [ho_sw_o i1 (by omega) hj]
      exact p1 j hj
    · rw [s2] at ho
      refine p2 o ?_
      rcases List.mem_append.mp ho with ho | ho
      · exact List.mem_append.mpr (Or.inl ho)
      · refine List.mem_append.mpr (Or.inr ?_)
        rcases List.mem_cons.mp ho with ho | ho
        · exact List.mem_cons.mpr (Or.inr (List.mem_cons.mpr (Or.inl ho)))
        · rcases List.mem_cons.mp ho with ho | ho
          · exact List.mem_cons.mpr (Or.inl ho)
          · exact List.mem_cons.mpr (Or.inr (List.mem_cons.mpr (Or.inr ho)))
    · rw [s2]
      refine bk_Dy_swap (fun z => ?_) c a (fun z => ?_) p3
      · exact (bL.2.2 z).1 c
      · exact b (vi_inj (vi_nn bN.1.2.2.2) (vi_nn bL.1.1) z.symm)
  · obtain ⟨p1, p2, p3, p4⟩ := hP
    refine K n2 (sc + 1) H2 _ _ _ _ _ ⟨by omega, by omega, by omega, p2, hr, ?_, p4⟩ pk_us pk_us ⟨fun j hj => ?_, fun j hj => ?_, sn.1.2.2.1, sn.1.2.2.2.1, sn.1.2.2.2.2⟩
    · rw [show 8 * s + (sc + 1) - 1 = 8 * s + sc by omega]
      exact p3
    · rw [p1 j hj, d4 j hj]
      exact hT.1.1.1 j hj
    · rw [pk_un hj]
      exact hT.1.1.2.1 j hj
theorem tr_trans {post : SX → Prop} (hs : s < 4) (hpr : pr_ok OO OA OB) (hst : st < cn) (hcn : cn ≤ 40) (hlg : 1 ≤ lg) (hlg2 : lg ≤ 1000) (h12 : ¬ OO st = 12)
    (K : ∀ (n m sc : Nat) (NT CG FK FX FY FZ KC : Int32) (H' : Nat → ho_Op) (HC' SC' : Nat → Int32) (Z' : Nat → ho_Sn) (ZR' HO CO CV NZ NE KB KO KT : Nat → Int32), bk_C n lg st cn OO → bk_Ok OO OA OB OC st n s m sc H' Z' ZR' → HC' s = nI m → SC' s = nI sc → tr_Fr s H HC SC Z ZR H' HC' SC' Z' ZR' → post (PG, FB, nI st, SD, FA, nI cn, PN, nI s, NT, CG, FK, FX, FY, FZ, KC, RG, CE, RT, OO, OA, OB, OC, upd BS s (nI st), upd BL s (nI n), HC', SC', ho_K H', ho_X H', ho_Y H', ho_Z H', ho_I H', ho_R H', ho_G H', ho_S H', ZR', sn_K Z', sn_X Z', sn_Y Z', sn_Z Z', TM, PA, PV, HO, CO, CV, NZ, NE, KB, KO, KT)) : wpX_translate post (PG, FB, nI st, SD, FA, nI cn, PN, SL, NT, CG, FK, FX, FY, FZ, KC, RG, CE, RT, OO, OA, OB, OC, BS, BL, HC, SC, ho_K H, ho_X H, ho_Y H, ho_Z H, ho_I H, ho_R H, ho_G H, ho_S H, ZR, sn_K Z, sn_X Z, sn_Y Z, sn_Z Z, TM, PA, PV, HO, CO, CV, NZ, NE, KB, KO, KT) (nI s) (nI lg) := by
  unfold wpX_translate
  dsimp only
  refine xw_bb hs ?_
  have w := tr_17 (post := post) (SD := SD) (PG := PG) (FB := FB) (FA := FA) (PN := PN) (RG := RG) (CE := CE) (RT := RT) (OO := OO) (OA := OA) (OB := OB) (OC := OC) (BS := BS) (BL := BL) (TM := TM) (PA := PA) (PV := PV) (NE := NE) (H0 := H) (C0 := HC) (D0 := SC) (Z0 := Z) (R0 := ZR) hs hpr hst hcn hlg hlg2 h12 (fun n m nt sc kc H1 HC1 SC1 Z1 ZR1 HO1 FK1 FX1 FY1 FZ1 CG1 CO1 CV1 NZ1 KB1 KO1 KT1 hT hC => tr_113 hs hT hC (fun m2 sc2 H2 HC2 SC2 Z2 ZR2 NE2 b1 b2 b3 b4 => K n m2 sc2 _ _ _ _ _ _ _ H2 HC2 SC2 Z2 ZR2 _ _ _ _ _ _ _ _ hC b1 b2 b3 b4)) 7 0 0 9 0 0 H (upd HC s 0) (upd SC s 0) Z ZR (fl_u HO (fun j => nI j) 8) 0 8 8 8 CG (fl_u CO (fun _ => 0) 32) CV (fl_u NZ (fun _ => 0) 32) KB KO KT rfl (tr_T_0 pk_us pk_us ⟨fun _ _ => rfl, fun j hj => pk_un hj, fun j hj => pk_un hj, fun _ _ => rfl, fun _ _ => rfl⟩ (fun i hi => fl_at hi) (fun t ht => ⟨fl_at ht, fl_at ht⟩)) (by omega) (by omega) (fun i hi => absurd hi (Nat.not_lt_zero i)) (fun i hi => absurd hi (Nat.not_lt_zero i))
  exact ⟨8, w⟩
/-! the slots that are kept -/
def bk_In (O A B C : Nat → Int32) (cn : Nat) (BS BL HC SC : Nat → Int32) (H : Nat → ho_Op) (Z : Nat → ho_Sn) (ZR : Nat → Int32) (s : Nat) : Prop := BL s = 0 ∨ ∃ st n m sc : Nat, st < 40 ∧ BS s = nI st ∧ BL s = nI n ∧ HC s = nI m ∧ SC s = nI sc ∧ bk_C n 7 st cn O ∧ bk_Ok O A B C st n s m sc H Z ZR
theorem bk_In_c {O A B C BS' BL' HC' SC' ZR' : Nat → Int32} {H' : Nat → ho_Op} {Z' : Nat → ho_Sn} {s' : Nat} (hs : s < 4) (hne : s ≠ s') (hs' : s' < 4) (hB : BS' s = BS s) (hL : BL' s = BL s) (hF : tr_Fr s' H HC SC Z ZR H' HC' SC' Z' ZR') (h : bk_In O A B C cn BS BL HC SC H Z ZR s) : bk_In O A B C cn BS' BL' HC' SC' H' Z' ZR' s := by
  rcases h with h | ⟨st, n, m, sc, h0, h1, h2, h3, h4, h5, h6⟩
  · exact Or.inl (hL.trans h)
  · refine Or.inr ⟨st, n, m, sc, h0, hB.trans h1, hL.trans h2, (hF.2.1 s hne).trans h3, (hF.2.2.1 s hne).trans h4, h5, bk_Ok_c hs (fun j j1 j2 => hF.1 j (by omega)) (fun j j1 j2 => hF.2.2.2.1 j (by omega)) (fun j j1 j2 => hF.2.2.2.2 j (by omega)) h6⟩
theorem bk_C_w {O : Nat → Int32} {lg' : Nat} (h : bk_C n lg st cn O) (hn : n ≤ lg') : bk_C n lg' st cn O := ⟨h.1, h.2.1, hn, h.2.2.2⟩
theorem tr_36 {post : Int32 → SX → Prop} (hs : s < 3) (hpr : pr_ok OO OA OB) (hst : st < cn) (hcn : cn ≤ 40) (hlg : 1 ≤ lg) (hlg2 : lg ≤ 1000) (h12 : ¬ OO st = 12) (hB : ∀ s, s < 3 → bk_In OO OA OB OC cn BS BL HC SC H Z ZR s) (hC : bk_C n 7 st cn OO) (hL : BL s = nI n) (hm : HC s = nI m) (hsc : SC s = nI sc) (hO : bk_Ok OO OA OB OC st n s m sc H Z ZR)
    (K : ∀ (s n m sc : Nat) (SL NT CG FK FX FY FZ KC : Int32) (BS BL HC SC : Nat → Int32) (H : Nat → ho_Op) (Z : Nat → ho_Sn) (ZR HO CO CV NZ NE KB KO KT : Nat → Int32), s < 4 → (∀ s, s < 3 → bk_In OO OA OB OC cn BS BL HC SC H Z ZR s) → BL s = nI n → HC s = nI m → SC s = nI sc → bk_C n lg st cn OO → bk_Ok OO OA OB OC st n s m sc H Z ZR → post (nI s) (PG, FB, nI st, SD, FA, nI cn, PN, SL, NT, CG, FK, FX, FY, FZ, KC, RG, CE, RT, OO, OA, OB, OC, BS, BL, HC, SC, ho_K H, ho_X H, ho_Y H, ho_Z H, ho_I H, ho_R H, ho_G H, ho_S H, ZR, sn_K Z, sn_X Z, sn_Y Z, sn_Z Z, TM, PA, PV, HO, CO, CV, NZ, NE, KB, KO, KT)) : wX_blockFor_36 post (nI lg) (nI s) PG FB (nI st) SD FA (nI cn) PN SL NT CG FK FX FY FZ KC RG CE RT OO OA OB OC BS BL HC SC (ho_K H) (ho_X H) (ho_Y H) (ho_Z H) (ho_I H) (ho_R H) (ho_G H) (ho_S H) ZR (sn_K Z) (sn_X Z) (sn_Y Z) (sn_Z Z) TM PA PV HO CO CV NZ NE KB KO KT := by
  have c4 : (nI s).toNatClampNeg = s := nI_clamp (by omega)
  have i4 : vp_in (nI s) 4 := vp_in_nI (by omega) (by omega)
  have hn7 := hC.2.1
  refine And.intro i4 (br_c (fun a => ?_) (fun a => ?_))
  · refine tr_trans (s := 3) (by omega) hpr hst hcn hlg hlg2 h12 (fun n' m' sc' NT CG FK FX FY FZ KC H' HC' SC' Z' ZR' HO CO CV NZ NE KB KO KT b1 b2 b3 b4 b5 => ?_)
    exact K 3 n' m' sc' _ NT CG FK FX FY FZ KC _ _ HC' SC' H' Z' ZR' HO CO CV NZ NE KB KO KT (by omega) (fun t ht => bk_In_c (s' := 3) (by omega) (by omega) (by omega) (pk_un (by omega)) (pk_un (by omega)) b5 (hB t ht)) pk_us b3 b4 b1 b2
  · rw [c4, hL, nI_ltI (by omega) (by omega)] at a
    exact K s n m sc SL NT CG FK FX FY FZ KC BS BL HC SC H Z ZR HO CO CV NZ NE KB KO KT (by omega) hB hL hm hsc (bk_C_w hC (by omega)) hO
theorem tr_blockFor {post : Int32 → SX → Prop} (hpr : pr_ok OO OA OB) (hst : st < cn) (hcn : cn ≤ 40) (hlg : 1 ≤ lg) (hlg2 : lg ≤ 1000) (h12 : ¬ OO st = 12) (hB : ∀ s, s < 3 → bk_In OO OA OB OC cn BS BL HC SC H Z ZR s)
    (K : ∀ (s n m sc : Nat) (SL NT CG FK FX FY FZ KC : Int32) (BS BL HC SC : Nat → Int32) (H : Nat → ho_Op) (Z : Nat → ho_Sn) (ZR HO CO CV NZ NE KB KO KT : Nat → Int32), s < 4 → (∀ s, s < 3 → bk_In OO OA OB OC cn BS BL HC SC H Z ZR s) → BL s = nI n → HC s = nI m → SC s = nI sc → bk_C n lg st cn OO → bk_Ok OO OA OB OC st n s m sc H Z ZR → post (nI s) (PG, FB, nI st, SD, FA, nI cn, PN, SL, NT, CG, FK, FX, FY, FZ, KC, RG, CE, RT, OO, OA, OB, OC, BS, BL, HC, SC, ho_K H, ho_X H, ho_Y H, ho_Z H, ho_I H, ho_R H, ho_G H, ho_S H, ZR, sn_K Z, sn_X Z, sn_Y Z, sn_Z Z, TM, PA, PV, HO, CO, CV, NZ, NE, KB, KO, KT)) : wpX_blockFor post (PG, FB, nI st, SD, FA, nI cn, PN, SL, NT, CG, FK, FX, FY, FZ, KC, RG, CE, RT, OO, OA, OB, OC, BS, BL, HC, SC, ho_K H, ho_X H, ho_Y H, ho_Z H, ho_I H, ho_R H, ho_G H, ho_S H, ZR, sn_K Z, sn_X Z, sn_Y Z, sn_Z Z, TM, PA, PV, HO, CO, CV, NZ, NE, KB, KO, KT) (nI lg) := by
  have hs3 : st % 3 < 3 := Nat.mod_lt _ (by omega)
  have c4 : (nI (st % 3)).toNatClampNeg = st % 3 := nI_clamp (by omega)
  have i4 : vp_in (nI (st % 3)) 4 := vp_in_nI (by omega) (by omega)
  have ex : nI st - nI st / 3 * 3 = nI (st % 3) := pk_rem (d := 3) (by omega) (by omega) (by omega)
  have w29 : wX_blockFor_29 post (nI lg) (nI (st % 3)) PG FB (nI st) SD FA (nI cn) PN SL NT CG FK FX FY FZ KC RG CE RT OO OA OB OC BS BL HC SC (ho_K H) (ho_X H) (ho_Y H) (ho_Z H) (ho_I H) (ho_R H) (ho_G H) (ho_S H) ZR (sn_K Z) (sn_X Z) (sn_Y Z) (sn_Z Z) TM PA PV HO CO CV NZ NE KB KO KT := by
    refine tr_trans (s := st % 3) (lg := 7) (by omega) hpr hst hcn (by omega) (by omega) h12 (fun n' m' sc' NT CG FK FX FY FZ KC H' HC' SC' Z' ZR' HO CO CV NZ NE KB KO KT b1 b2 b3 b4 b5 => ?_)
    refine tr_36 (n := n') (m := m') (sc := sc') hs3 hpr hst hcn hlg hlg2 h12 (fun t ht => ?_) b1 pk_us b3 b4 b2 K
    by_cases e : t = st % 3
    · subst e
      exact Or.inr ⟨st, n', m', sc', by omega, pk_us, pk_us, b3, b4, b1, b2⟩
    · exact bk_In_c (s' := st % 3) (by omega) e (by omega) (pk_un e) (pk_un e) b5 (hB t ht)
  refine And.intro (by decide) (nm_r ex (And.intro i4 (br_c (fun _ => w29) (fun a => And.intro i4 (br_c (fun b => ?_) (fun _ => w29))))))
  rw [c4] at a b
  rcases hB (st % 3) hs3 with h | ⟨st', n, m, sc, h0, h1, h2, h3, h4, h5, h6⟩
  · exact absurd h a
  · rw [h1, nI_eq (by omega) (by omega)] at b
    subst b
    exact tr_36 hs3 hpr hst hcn hlg hlg2 h12 hB h5 h2 h3 h4 h6 K
end
end
section
section
/-! stores that are held back; one operation performed -/
def pn_ov : Nat → (Nat → Int32) → (Nat → Int32) → (Nat → Int32) → Nat → Int32
  | 0, _, _, M => M
  | n + 1, PA, PV, M => upd (pn_ov n PA PV M) (PA n).toNatClampNeg (PV n)
def pn_I (n : Nat) (PA PV M Mem : Nat → Int32) : Prop := (∀ i, i < n → vp_in (PA i) 32) ∧ (∀ i j, i < j → j < n → PA i ≠ PA j) ∧ pn_ov n PA PV M = Mem
theorem pn_ov_c {PA PV PA' PV' M : Nat → Int32} : ∀ n : Nat, (∀ i, i < n → PA' i = PA i) → (∀ i, i < n → PV' i = PV i) → pn_ov n PA' PV' M = pn_ov n PA PV M
  | 0, _, _ => rfl
  | n + 1, h1, h2 => by
    show upd (pn_ov n PA' PV' M) (PA' n).toNatClampNeg (PV' n) = upd (pn_ov n PA PV M) (PA n).toNatClampNeg (PV n)
    rw [pn_ov_c n (fun i hi => h1 i (by omega)) (fun i hi => h2 i (by omega)), h1 n (by omega), h2 n (by omega)]
theorem up_same {f : Nat → Int32} {k : Nat} {x y : Int32} : upd (upd f k x) k y = upd f k y := by
  funext j
  unfold upd
  by_cases e : j = k
  · rw [if_pos e, if_pos e]
  · rw [if_neg e, if_neg e, if_neg e]
theorem up_comm {f : Nat → Int32} {k l : Nat} {x y : Int32} (h : k ≠ l) : upd (upd f k x) l y = upd (upd f l y) k x := by
  funext j
  unfold upd
  by_cases e : j = k
  · have e2 : ¬ j = l := by omega
    rw [if_neg e2, if_pos e, if_pos e]
  · by_cases e2 : j = l
    · rw [if_pos e2, if_neg e, if_pos e2]
    · rw [if_neg e2, if_neg e, if_neg e, if_neg e2]
theorem pn_ov_r {PA PV M : Nat → Int32} {i : Nat} {v : Int32} : ∀ n : Nat, i < n → (∀ j, j < n → j ≠ i → (PA i).toNatClampNeg ≠ (PA j).toNatClampNeg) → pn_ov n PA (upd PV i v) M = upd (pn_ov n PA PV M) (PA i).toNatClampNeg v
  | 0, h, _ => absurd h (Nat.not_lt_zero i)
  | n + 1, h, hd => by
    show upd (pn_ov n PA (upd PV i v) M) (PA n).toNatClampNeg (upd PV i v n) = upd (upd (pn_ov n PA PV M) (PA n).toNatClampNeg (PV n)) (PA i).toNatClampNeg v
    by_cases e : i = n
    · subst e
      rw [pk_us, pn_ov_c i (fun _ _ => rfl) (fun j hj => pk_un (by omega)), up_same]
    · rw [pk_un (by omega), pn_ov_r n (by omega) (fun j hj hn => hd j (by omega) hn), up_comm (hd n (by omega) (by omega))]
variable {PG FB CT SD FA CN PN SL NT CG FK FX FY FZ KC : Int32} {RG CE RT OO OA OB OC BS BL HC SC ZR TM PA PV HO CO CV NZ NE KB KO KT : Nat → Int32} {H : Nat → ho_Op} {Z : Nat → ho_Sn}
theorem xw_ins {post : Int32 → Prop} {ad : Int32} (h0 : ad < 0 → post 0) (h1 : ¬ ad < 0 → 8 * PG ≤ ad → post 0) (h2 : ¬ ad < 0 → ¬ 8 * PG ≤ ad → post 1) : wpX_inside post (PG, FB, CT, SD, FA, CN, PN, SL, NT, CG, FK, FX, FY, FZ, KC, RG, CE, RT, OO, OA, OB, OC, BS, BL, HC, SC, ho_K H, ho_X H, ho_Y H, ho_Z H, ho_I H, ho_R H, ho_G H, ho_S H, ZR, sn_K Z, sn_X Z, sn_Y Z, sn_Z Z, TM, PA, PV, HO, CO, CV, NZ, NE, KB, KO, KT) ad :=
  br_c h0 (fun a => br_c (h1 a) (h2 a))
theorem xw_ld43 {post : Int32 → SX → Prop} {pn : Nat} {ad r : Int32} (hpn : pn ≤ 8) (hr : vp_in r 32) (had : ¬ ad < 0) (hPA : ∀ i, i < pn → vp_in (PA i) 32) (h : post 0 (PG, FB, CT, SD, FA, CN, nI pn, SL, NT, CG, FK, FX, FY, FZ, KC, RG, CE, RT, OO, OA, OB, OC, BS, BL, HC, SC, ho_K H, ho_X H, ho_Y H, ho_Z H, ho_I H, ho_R H, ho_G H, ho_S H, ZR, sn_K Z, sn_X Z, sn_Y Z, sn_Z Z, upd TM r.toNatClampNeg (pn_ov pn PA PV CE ad.toNatClampNeg), PA, PV, HO, CO, CV, NZ, NE, KB, KO, KT)) : ∀ d i : Nat, i + d = pn → wX_performLoad_43 post ad r PG FB CT SD FA CN (nI pn) SL NT CG FK FX FY FZ KC RG CE RT OO OA OB OC BS BL HC SC (ho_K H) (ho_X H) (ho_Y H) (ho_Z H) (ho_I H) (ho_R H) (ho_G H) (ho_S H) ZR (sn_K Z) (sn_X Z) (sn_Y Z) (sn_Z Z) TM PA PV HO CO CV NZ NE KB KO KT (d + 1) (pn_ov i PA PV CE ad.toNatClampNeg) (nI i) := by
  intro d
  induction d with
  | zero =>
    intro i hi
    have e : i = pn := by omega
    subst e
    exact br_t (nI_le (by omega) (by omega)) (And.intro hr (nm_e h))
  | succ d ih =>
    intro i hi
    have ci : (nI i).toNatClampNeg = i := nI_clamp (by omega)
    have ii : vp_in (nI i) 8 := vp_in_nI (by omega) (by omega)
    have w := ih (i + 1) (by omega)
    refine br_f (nI_ge (by omega) (by omega)) (And.intro ii (br_c (fun a => And.intro ii ?_) (fun a => ?_)))
    · rw [ci] at a
      have e : pn_ov (i + 1) PA PV CE ad.toNatClampNeg = PV i := by
        show upd (pn_ov i PA PV CE) (PA i).toNatClampNeg (PV i) ad.toNatClampNeg = PV i
        rw [a]; exact pk_us
      rw [e] at w
      rw [ci]
      exact nm_e (nm_r (nI_1 i) w)
    · rw [ci] at a
      have e : pn_ov (i + 1) PA PV CE ad.toNatClampNeg = pn_ov i PA PV CE ad.toNatClampNeg := by
        show upd (pn_ov i PA PV CE) (PA i).toNatClampNeg (PV i) ad.toNatClampNeg = _
        exact pk_un (fun z => a (vi_inj (vi_nn (hPA i (by omega))) had z.symm))
      rw [e] at w
      exact nm_r (nI_1 i) w
theorem xw_ld_ok {post : Int32 → SX → Prop} {pn : Nat} {ad r : Int32} (hp : gu_pg PG) (hpn : pn ≤ 8) (hr : vp_in r 32) (hPA : ∀ i, i < pn → vp_in (PA i) 32) (hf : gu_ld PG RT ad = 0) (h : post 0 (PG, FB, CT, SD, FA, CN, nI pn, SL, NT, CG, FK, FX, FY, FZ, KC, RG, CE, RT, OO, OA, OB, OC, BS, BL, HC, SC, ho_K H, ho_X H, ho_Y H, ho_Z H, ho_I H, ho_R H, ho_G H, ho_S H, ZR, sn_K Z, sn_X Z, sn_Y Z, sn_Z Z, upd TM r.toNatClampNeg (pn_ov pn PA PV CE ad.toNatClampNeg), PA, PV, HO, CO, CV, NZ, NE, KB, KO, KT)) : wpX_performLoad post (PG, FB, CT, SD, FA, CN, nI pn, SL, NT, CG, FK, FX, FY, FZ, KC, RG, CE, RT, OO, OA, OB, OC, BS, BL, HC, SC, ho_K H, ho_X H, ho_Y H, ho_Z H, ho_I H, ho_R H, ho_G H, ho_S H, ZR, sn_K Z, sn_X Z, sn_Y Z, sn_Z Z, TM, PA, PV, HO, CO, CV, NZ, NE, KB, KO, KT) ad r := by
  have q := gu_ld_in hp hf
  unfold wpX_performLoad
  dsimp only
  refine xw_ins (fun z => absurd z q.1) (fun _ z => absurd z q.2.1) (fun a b => br_f (by decide) (And.intro (gu_in32 hp a b).2 (br_f q.2.2.1 (And.intro q.2.2.2 (nm_e ⟨pn + 1, ?_⟩)))))
  exact xw_ld43 hpn hr q.1 hPA h pn 0 (Nat.zero_add pn)
theorem xw_ld_bad {post : Int32 → SX → Prop} {ad r code : Int32} (hp : gu_pg PG) (hc : code ≠ 0) (hf : gu_ld PG RT ad = code) (h : post code (PG, FB, CT, SD, ad, CN, PN, SL, NT, CG, FK, FX, FY, FZ, KC, RG, CE, RT, OO, OA, OB, OC, BS, BL, HC, SC, ho_K H, ho_X H, ho_Y H, ho_Z H, ho_I H, ho_R H, ho_G H, ho_S H, ZR, sn_K Z, sn_X Z, sn_Y Z, sn_Z Z, TM, PA, PV, HO, CO, CV, NZ, NE, KB, KO, KT)) : wpX_performLoad post (PG, FB, CT, SD, FA, CN, PN, SL, NT, CG, FK, FX, FY, FZ, KC, RG, CE, RT, OO, OA, OB, OC, BS, BL, HC, SC, ho_K H, ho_X H, ho_Y H, ho_Z H, ho_I H, ho_R H, ho_G H, ho_S H, ZR, sn_K Z, sn_X Z, sn_Y Z, sn_Z Z, TM, PA, PV, HO, CO, CV, NZ, NE, KB, KO, KT) ad r := by
  unfold gu_ld at hf
  unfold wpX_performLoad
  dsimp only
  refine xw_ins (fun a => ?_) (fun a b => ?_) (fun a b => br_f (by decide) (And.intro (gu_in32 hp a b).2 (br_c (fun c => ?_) (fun c => ?_))))
  · rw [if_pos a] at hf
    rw [hf]; exact br_t rfl h
  · rw [if_neg a, if_pos b] at hf
    rw [hf]; exact br_t rfl h
  · rw [if_neg a, if_neg b, if_pos c] at hf
    rw [hf]; exact h
  · rw [if_neg a, if_neg b, if_neg c] at hf
    exact absurd hf.symm hc
theorem xw_st36 {post : Int32 → SX → Prop} {pn : Nat} {ad v : Int32} {Mem : Nat → Int32} (hpn : pn < 8) (had : vp_in ad 32) (hI : pn_I pn PA PV CE Mem) (K : ∀ (pn' : Nat) (PA' PV' : Nat → Int32), pn' ≤ pn + 1 → pn_I pn' PA' PV' CE (upd Mem ad.toNatClampNeg v) → post 0 (PG, FB, CT, SD, FA, CN, nI pn', SL, NT, CG, FK, FX, FY, FZ, KC, RG, CE, RT, OO, OA, OB, OC, BS, BL, HC, SC, ho_K H, ho_X H, ho_Y H, ho_Z H, ho_I H, ho_R H, ho_G H, ho_S H, ZR, sn_K Z, sn_X Z, sn_Y Z, sn_Z Z, TM, PA', PV', HO, CO, CV, NZ, NE, KB, KO, KT)) : ∀ d i : Nat, i + d = pn → (∀ j, j < i → PA j ≠ ad) → wX_performStore_36 post ad v PG FB CT SD FA CN (nI pn) SL NT CG FK FX FY FZ KC RG CE RT OO OA OB OC BS BL HC SC (ho_K H) (ho_X H) (ho_Y H) (ho_Z H) (ho_I H) (ho_R H) (ho_G H) (ho_S H) ZR (sn_K Z) (sn_X Z) (sn_Y Z) (sn_Z Z) TM PA PV HO CO CV NZ NE KB KO KT (d + 1) (nI i) := by
  obtain ⟨i1, i2, i3⟩ := hI
  intro d
  induction d with
  | zero =>
    intro i hi hn
    have e : i = pn := by omega
    subst e
    have ci : (nI i).toNatClampNeg = i := nI_clamp (by omega)
    have ii : vp_in (nI i) 8 := vp_in_nI (by omega) (by omega)
    have e1 : upd PA (nI i).toNatClampNeg ad = upd PA i ad := by rw [ci]
    have e2 : upd PV (nI i).toNatClampNeg v = upd PV i v := by rw [ci]
    refine br_t (nI_le (by omega) (by omega)) (And.intro ii (nm_r e1 (And.intro ii (nm_r e2 (nm_r (nI_1 i) (K (i + 1) _ _ (Nat.le_refl _) ⟨fun j hj => ?_, fun j l hj hl => ?_, ?_⟩))))))
    · by_cases e : j = i
      · rw [e, pk_us]; exact had
      · rw [pk_un e]; exact i1 j (by omega)
    · by_cases e : l = i
      · rw [e, pk_us, pk_un (by omega)]
        exact hn j (by omega)
      · rw [pk_un e, pk_un (by omega)]
        exact i2 j l hj (by omega)
    · show upd (pn_ov i (upd PA i ad) (upd PV i v) CE) (upd PA i ad i).toNatClampNeg (upd PV i v i) = _
      rw [pk_us, pk_us, pn_ov_c i (fun j hj => pk_un (by omega)) (fun j hj => pk_un (by omega)), i3]
  | succ d ih =>
    intro i hi hn
    have ci : (nI i).toNatClampNeg = i := nI_clamp (by omega)
    have ii : vp_in (nI i) 8 := vp_in_nI (by omega) (by omega)
    have e2 : upd PV (nI i).toNatClampNeg v = upd PV i v := by rw [ci]
    refine br_f (nI_ge (by omega) (by omega)) (And.intro ii (br_c (fun a => And.intro ii (nm_r e2 (K pn PA _ (by omega) ⟨i1, i2, ?_⟩))) (fun a => nm_r (nI_1 i) (ih (i + 1) (by omega) (lt_s hn ?_)))))
    · rw [ci] at a
      rw [pn_ov_r pn (by omega) (fun j hj hne z => ?_), i3, a]
      have e := vi_inj (vi_nn (i1 i (by omega))) (vi_nn (i1 j hj)) z
      rcases Nat.lt_or_gt_of_ne hne with c | c
      · exact i2 j i c (by omega) e.symm
      · exact i2 i j c hj e
    · rw [ci] at a
      exact a
theorem xw_st_ok {post : Int32 → SX → Prop} {pn : Nat} {ad v : Int32} {Mem : Nat → Int32} (hp : gu_pg PG) (hpn : pn < 8) (hI : pn_I pn PA PV CE Mem) (hf : gu_sv PG RT ad = 0) (K : ∀ (pn' : Nat) (PA' PV' : Nat → Int32), pn' ≤ pn + 1 → pn_I pn' PA' PV' CE (upd Mem ad.toNatClampNeg v) → post 0 (PG, FB, CT, SD, FA, CN, nI pn', SL, NT, CG, FK, FX, FY, FZ, KC, RG, CE, RT, OO, OA, OB, OC, BS, BL, HC, SC, ho_K H, ho_X H, ho_Y H, ho_Z H, ho_I H, ho_R H, ho_G H, ho_S H, ZR, sn_K Z, sn_X Z, sn_Y Z, sn_Z Z, TM, PA', PV', HO, CO, CV, NZ, NE, KB, KO, KT)) : wpX_performStore post (PG, FB, CT, SD, FA, CN, nI pn, SL, NT, CG, FK, FX, FY, FZ, KC, RG, CE, RT, OO, OA, OB, OC, BS, BL, HC, SC, ho_K H, ho_X H, ho_Y H, ho_Z H, ho_I H, ho_R H, ho_G H, ho_S H, ZR, sn_K Z, sn_X Z, sn_Y Z, sn_Z Z, TM, PA, PV, HO, CO, CV, NZ, NE, KB, KO, KT) ad v := by
  have q := gu_sv_in hp hf
  unfold wpX_performStore
  dsimp only
  refine xw_ins (fun z => absurd z q.1) (fun _ z => absurd z q.2.1) (fun a b => br_f (by decide) (And.intro (gu_in32 hp a b).2 (br_t q.2.2.1 ⟨pn + 1, ?_⟩)))
  exact xw_st36 hpn q.2.2.2 hI K pn 0 (Nat.zero_add pn) (fun j hj => absurd hj (Nat.not_lt_zero j))
theorem xw_st_bad {post : Int32 → SX → Prop} {ad v code : Int32} (hp : gu_pg PG) (hc : code ≠ 0) (hf : gu_sv PG RT ad = code) (h : post code (PG, FB, CT, SD, ad, CN, PN, SL, NT, CG, FK, FX, FY, FZ, KC, RG, CE, RT, OO, OA, OB, OC, BS, BL, HC, SC, ho_K H, ho_X H, ho_Y H, ho_Z H, ho_I H, ho_R H, ho_G H, ho_S H, ZR, sn_K Z, sn_X Z, sn_Y Z, sn_Z Z, TM, PA, PV, HO, CO, CV, NZ, NE, KB, KO, KT)) : wpX_performStore post (PG, FB, CT, SD, FA, CN, PN, SL, NT, CG, FK, FX, FY, FZ, KC, RG, CE, RT, OO, OA, OB, OC, BS, BL, HC, SC, ho_K H, ho_X H, ho_Y H, ho_Z H, ho_I H, ho_R H, ho_G H, ho_S H, ZR, sn_K Z, sn_X Z, sn_Y Z, sn_Z Z, TM, PA, PV, HO, CO, CV, NZ, NE, KB, KO, KT) ad v := by
  unfold gu_sv at hf
  unfold wpX_performStore
  dsimp only
  refine xw_ins (fun a => ?_) (fun a b => ?_) (fun a b => br_f (by decide) (And.intro (gu_in32 hp a b).2 (br_c (fun c => ?_) (fun c => ?_))))
  · rw [if_pos a] at hf
    rw [hf]; exact br_t rfl h
  · rw [if_neg a, if_pos b] at hf
    rw [hf]; exact br_t rfl h
  · rw [if_neg a, if_neg b, if_pos c] at hf
    exact absurd hf.symm hc
  · rw [if_neg a, if_neg b, if_neg c] at hf
    rw [hf]; exact h
/-- an operation that neither loads nor stores -/
theorem xw_perf_p {post : Int32 → SX → Prop} {k : Nat} (hk : k < 64) (hin : op_in (H k)) (hp : ho_plain (H k)) (hf : ho_flt PG RT TM (H k) = 0) (h : post 0 (PG, FB, CT, SD, FA, CN, PN, SL, NT, CG, FK, FX, FY, FZ, KC, RG, CE, RT, OO, OA, OB, OC, BS, BL, HC, SC, ho_K H, ho_X H, ho_Y H, ho_Z H, ho_I H, ho_R H, ho_G H, ho_S H, ZR, sn_K Z, sn_X Z, sn_Y Z, sn_Z Z, upd TM (oq_r (H k)).toNatClampNeg (ho_val TM (H k)), PA, PV, HO, CO, CV, NZ, NE, KB, KO, KT)) : wpX_perform post (PG, FB, CT, SD, FA, CN, PN, SL, NT, CG, FK, FX, FY, FZ, KC, RG, CE, RT, OO, OA, OB, OC, BS, BL, HC, SC, ho_K H, ho_X H, ho_Y H, ho_Z H, ho_I H, ho_R H, ho_G H, ho_S H, ZR, sn_K Z, sn_X Z, sn_Y Z, sn_Z Z, TM, PA, PV, HO, CO, CV, NZ, NE, KB, KO, KT) (nI k) := by
  have ck : (nI k).toNatClampNeg = k := nI_clamp (by omega)
  have ik : vp_in (nI k) 64 := vp_in_nI hk (by omega)
  have eK : ho_K H (nI k).toNatClampNeg = oq_k (H k) := congrArg (ho_K H) ck
  have vx : vp_in (ho_X H (nI k).toNatClampNeg) 32 := by rw [ck]; exact hin.1
  have vy : vp_in (ho_Y H (nI k).toNatClampNeg) 32 := by rw [ck]; exact hin.2.1
  have vz : vp_in (ho_Z H (nI k).toNatClampNeg) 32 := by rw [ck]; exact hin.2.2.1
  have vr : vp_in (ho_R H (nI k).toNatClampNeg) 32 := by rw [ck]; exact hin.2.2.2
  have eX : TM (ho_X H (nI k).toNatClampNeg).toNatClampNeg = TM (oq_x (H k)).toNatClampNeg := by rw [ck]
  have eY : TM (ho_Y H (nI k).toNatClampNeg).toNatClampNeg = TM (oq_y (H k)).toNatClampNeg := by rw [ck]
  have eZ : TM (ho_Z H (nI k).toNatClampNeg).toNatClampNeg = TM (oq_z (H k)).toNatClampNeg := by rw [ck]
  have e175 : ∀ v : Int32, v = ho_val TM (H k) → wX_perform_175 post (nI k) v PG FB CT SD FA CN PN SL NT CG FK FX FY FZ KC RG CE RT OO OA OB OC BS BL HC SC (ho_K H) (ho_X H) (ho_Y H) (ho_Z H) (ho_I H) (ho_R H) (ho_G H) (ho_S H) ZR (sn_K Z) (sn_X Z) (sn_Y Z) (sn_Z Z) TM PA PV HO CO CV NZ NE KB KO KT := by
    intro v ev
    have eT : upd TM (ho_R H (nI k).toNatClampNeg).toNatClampNeg v = upd TM (oq_r (H k)).toNatClampNeg (ho_val TM (H k)) := by rw [ck, ev]
    exact And.intro ik (And.intro vr (nm_r eT h))
  have e105 : wX_perform_105 post (nI k) (oq_k (H k)) (TM (oq_x (H k)).toNatClampNeg) (TM (oq_y (H k)).toNatClampNeg) (TM (oq_z (H k)).toNatClampNeg) PG FB CT SD FA CN PN SL NT CG FK FX FY FZ KC RG CE RT OO OA OB OC BS BL HC SC (ho_K H) (ho_X H) (ho_Y H) (ho_Z H) (ho_I H) (ho_R H) (ho_G H) (ho_S H) ZR (sn_K Z) (sn_X Z) (sn_Y Z) (sn_Z Z) TM PA PV HO CO CV NZ NE KB KO KT := by
    refine br_c (fun a => And.intro ik (nm_e (e175 _ ?_))) (fun a => br_c (fun b => And.intro ik (nm_e (e175 _ ?_))) (fun b => br_c (fun c => And.intro ik (xw_flg (e175 _ ?_))) (fun c => xw_cmp (e175 _ ?_))))
    · unfold ho_val
      rw [if_pos a, ck]
    · unfold ho_val
      rw [if_neg a, if_pos b, ck]
    · unfold ho_val
      rw [if_neg a, if_neg b, if_pos c, ck]
    · unfold ho_val
      rw [if_neg a, if_neg b, if_neg c]
  refine And.intro ik (nm_r eK (And.intro ik (And.intro vx (nm_r eX (And.intro ik (And.intro vy (nm_r eY (And.intro ik (And.intro vz (nm_r eZ (br_f hp.1 (br_f hp.2 (br_c (fun a => br_c (fun b => ?_) (fun b => e105)) (fun a => e105))))))))))))))
  unfold ho_flt at hf
  rw [if_neg hp.1, if_neg hp.2, if_pos a, if_pos b] at hf
  exact absurd hf (by decide)
/-- any operation that does not fault -/
theorem xw_perf_ok {post : Int32 → SX → Prop} {k pn : Nat} {Mem : Nat → Int32} (hp : gu_pg PG) (hk : k < 64) (hin : op_in (H k)) (hpn : pn < 8) (hI : pn_I pn PA PV CE Mem) (hf : ho_flt PG RT TM (H k) = 0) (K : ∀ (pn' : Nat) (PA' PV' TM' : Nat → Int32), pn' ≤ pn + (if oq_k (H k) = 10 then 1 else 0) → pn_I pn' PA' PV' CE (ho_mem TM Mem (H k)) → (oq_k (H k) = 10 → TM' = TM) → (oq_k (H k) ≠ 10 → TM' = upd TM (oq_r (H k)).toNatClampNeg (ho_eff TM Mem (H k))) → post 0 (PG, FB, CT, SD, FA, CN, nI pn', SL, NT, CG, FK, FX, FY, FZ, KC, RG, CE, RT, OO, OA, OB, OC, BS, BL, HC, SC, ho_K H, ho_X H, ho_Y H, ho_Z H, ho_I H, ho_R H, ho_G H, ho_S H, ZR, sn_K Z, sn_X Z, sn_Y Z, sn_Z Z, TM', PA', PV', HO, CO, CV, NZ, NE, KB, KO, KT)) : wpX_perform post (PG, FB, CT, SD, FA, CN, nI pn, SL, NT, CG, FK, FX, FY, FZ, KC, RG, CE, RT, OO, OA, OB, OC, BS, BL, HC, SC, ho_K H, ho_X H, ho_Y H, ho_Z H, ho_I H, ho_R H, ho_G H, ho_S H, ZR, sn_K Z, sn_X Z, sn_Y Z, sn_Z Z, TM, PA, PV, HO, CO, CV, NZ, NE, KB, KO, KT) (nI k) := by
  by_cases h9 : oq_k (H k) = 9
  · have n10 : oq_k (H k) ≠ 10 := by rw [h9]; decide
    have ck : (nI k).toNatClampNeg = k := nI_clamp (by omega)
    have ik : vp_in (nI k) 64 := vp_in_nI hk (by omega)
    have eK : ho_K H (nI k).toNatClampNeg = oq_k (H k) := congrArg (ho_K H) ck
    have vx : vp_in (ho_X H (nI k).toNatClampNeg) 32 := by rw [ck]; exact hin.1
    have vy : vp_in (ho_Y H (nI k).toNatClampNeg) 32 := by rw [ck]; exact hin.2.1
    have vz : vp_in (ho_Z H (nI k).toNatClampNeg) 32 := by rw [ck]; exact hin.2.2.1
    unfold ho_flt at hf
    rw [if_pos h9] at hf
    refine And.intro ik (nm_r eK (And.intro ik (And.intro vx (nm_e (And.intro ik (And.intro vy (nm_e (And.intro ik (And.intro vz (nm_e (br_t h9 (And.intro ik (And.intro ik ?_)))))))))))))
    rw [ck]
    refine xw_ld_ok hp (by omega) hin.2.2.2 hI.1 hf (K pn PA PV _ (by omega) ?_ (fun z => absurd z n10) (fun _ => ?_))
    · rw [ho_mem_p n10]; exact hI
    · unfold ho_eff
      rw [if_pos h9, hI.2.2]
      rfl
  · by_cases h10 : oq_k (H k) = 10
    · have ck : (nI k).toNatClampNeg = k := nI_clamp (by omega)
      have ik : vp_in (nI k) 64 := vp_in_nI hk (by omega)
      have eK : ho_K H (nI k).toNatClampNeg = oq_k (H k) := congrArg (ho_K H) ck
      have vx : vp_in (ho_X H (nI k).toNatClampNeg) 32 := by rw [ck]; exact hin.1
      have vy : vp_in (ho_Y H (nI k).toNatClampNeg) 32 := by rw [ck]; exact hin.2.1
      have vz : vp_in (ho_Z H (nI k).toNatClampNeg) 32 := by rw [ck]; exact hin.2.2.1
      unfold ho_flt at hf
      rw [if_neg h9, if_pos h10] at hf
      refine And.intro ik (nm_r eK (And.intro ik (And.intro vx (nm_e (And.intro ik (And.intro vy (nm_e (And.intro ik (And.intro vz (nm_e (br_f h9 (br_t h10 (And.intro ik ?_)))))))))))))
      rw [ck]
      refine xw_st_ok hp hpn hI hf (fun pn' PA' PV' a b => K pn' PA' PV' TM (by rw [if_pos h10]; exact a) ?_ (fun _ => rfl) (fun z => absurd h10 z))
      unfold ho_mem
      rw [if_pos h10]
      exact b
    · refine xw_perf_p hk hin ⟨h9, h10⟩ hf (K pn PA PV _ (by omega) ?_ (fun z => absurd z h10) (fun _ => ?_))
      · rw [ho_mem_p h10]; exact hI
      · unfold ho_eff
        rw [if_neg h9]
/-- an operation that faults -/
theorem xw_perf_bad {post : Int32 → SX → Prop} {k : Nat} {code : Int32} (hp : gu_pg PG) (hk : k < 64) (hin : op_in (H k)) (hc : code ≠ 0) (hf : ho_flt PG RT TM (H k) = code) (h : post code (PG, FB, CT, SD, if oq_k (H k) = 7 then FA else ho_ad TM (H k), CN, PN, SL, NT, CG, FK, FX, FY, FZ, KC, RG, CE, RT, OO, OA, OB, OC, BS, BL, HC, SC, ho_K H, ho_X H, ho_Y H, ho_Z H, ho_I H, ho_R H, ho_G H, ho_S H, ZR, sn_K Z, sn_X Z, sn_Y Z, sn_Z Z, TM, PA, PV, HO, CO, CV, NZ, NE, KB, KO, KT)) : wpX_perform post (PG, FB, CT, SD, FA, CN, PN, SL, NT, CG, FK, FX, FY, FZ, KC, RG, CE, RT, OO, OA, OB, OC, BS, BL, HC, SC, ho_K H, ho_X H, ho_Y H, ho_Z H, ho_I H, ho_R H, ho_G H, ho_S H, ZR, sn_K Z, sn_X Z, sn_Y Z, sn_Z Z, TM, PA, PV, HO, CO, CV, NZ, NE, KB, KO, KT) (nI k) := by
  have ck : (nI k).toNatClampNeg = k := nI_clamp (by omega)
  have ik : vp_in (nI k) 64 := vp_in_nI hk (by omega)
  have eK : ho_K H (nI k).toNatClampNeg = oq_k (H k) := congrArg (ho_K H) ck
  have vx : vp_in (ho_X H (nI k).toNatClampNeg) 32 := by rw [ck]; exact hin.1
  have vy : vp_in (ho_Y H (nI k).toNatClampNeg) 32 := by rw [ck]; exact hin.2.1
  have vz : vp_in (ho_Z H (nI k).toNatClampNeg) 32 := by rw [ck]; exact hin.2.2.1
  unfold ho_flt at hf
  refine And.intro ik (nm_r eK (And.intro ik (And.intro vx (nm_e (And.intro ik (And.intro vy (nm_e (And.intro ik (And.intro vz (nm_e (br_c (fun a => And.intro ik (And.intro ik ?_)) (fun a => br_c (fun b => And.intro ik ?_) (fun b => br_c (fun c => br_c (fun z => ?_) (fun z => ?_)) (fun c => ?_))))))))))))))
  · rw [if_pos a] at hf
    have n7 : ¬ oq_k (H k) = 7 := by rw [a]; decide
    rw [if_neg n7] at h
    rw [ck]
    exact xw_ld_bad hp hc hf h
  · rw [if_neg a, if_pos b] at hf
    have n7 : ¬ oq_k (H k) = 7 := by rw [b]; decide
    rw [if_neg n7] at h
    rw [ck]
    exact xw_st_bad hp hc hf h
  · rw [ck] at z
    rw [if_neg a, if_neg b, if_pos c, if_pos z] at hf
    rw [if_pos c] at h
    rw [hf]
    exact h
  · rw [ck] at z
    rw [if_neg a, if_neg b, if_pos c, if_neg z] at hf
    exact absurd hf.symm hc
  · rw [if_neg a, if_neg b, if_neg c] at hf
    exact absurd hf.symm hc
end
end
section
section
/-! snapshots shown, stores committed, a fault recovered, a block run -/
theorem fl_c {f v v' : Nat → Int32} {n : Nat} (h : ∀ i, i < n → v i = v' i) : fl_u f v n = fl_u f v' n := by
  funext j
  unfold fl_u
  by_cases c : j < n
  · rw [if_pos c, if_pos c, h j c]
  · rw [if_neg c, if_neg c]
theorem ho_ad_u {D : Nat → Prop} {T V : Nat → Int32} {o : ho_Op} (hT : ∀ t, D t → T t = V t) (u : ho_use D o) : ho_ad T o = ho_ad V o := by
  unfold ho_ad
  rw [hT _ u.1]
theorem ho_flt_u {pg : Int32} {rt : Nat → Int32} {D : Nat → Prop} {T V : Nat → Int32} {o : ho_Op} (hT : ∀ t, D t → T t = V t) (u : ho_use D o) : ho_flt pg rt T o = ho_flt pg rt V o := by
  by_cases k : oq_k o = 9
  · unfold ho_flt
    rw [if_pos k, if_pos k, ho_ad_u hT u]
  · exact ho_flt_c (hT _ u.1) (hT _ (u.2 k).1)
theorem ho_eff_u {D : Nat → Prop} {T V M : Nat → Int32} {o : ho_Op} (hT : ∀ t, D t → T t = V t) (u : ho_use D o) : ho_eff T M o = ho_eff V M o := by
  by_cases k : oq_k o = 9
  · unfold ho_eff
    rw [if_pos k, if_pos k, ho_ad_u hT u]
  · exact ho_eff_c (hT _ u.1) (hT _ (u.2 k).1) (hT _ (u.2 k).2)
theorem ho_mem_u {D : Nat → Prop} {T V M : Nat → Int32} {o : ho_Op} (hT : ∀ t, D t → T t = V t) (u : ho_use D o) : ho_mem T M o = ho_mem V M o := by
  by_cases k : oq_k o = 10
  · have k9 : oq_k o ≠ 9 := by rw [k]; decide
    exact ho_mem_c (hT _ u.1) (hT _ (u.2 k9).1)
  · rw [ho_mem_p k, ho_mem_p k]
theorem ho_val_u {D : Nat → Prop} {T V : Nat → Int32} {o : ho_Op} (hT : ∀ t, D t → T t = V t) (u : ho_use D o) (k : oq_k o ≠ 9) : ho_val T o = ho_val V o := ho_val_c (hT _ u.1) (hT _ (u.2 k).1) (hT _ (u.2 k).2)
variable {PG FB CT SD FA CN PN SL NT CG FK FX FY FZ KC : Int32} {RG CE RT OO OA OB OC BS BL HC SC ZR TM PA PV HO CO CV NZ NE KB KO KT : Nat → Int32} {H : Nat → ho_Op} {Z : Nat → ho_Sn}
theorem xw_show2 {post : SX → Prop} {q : Nat} (hq : q < 32) (hin : (∀ i, i < 8 → vp_in (ZR (8 * q + i)) 32) ∧ vp_in (sn_X Z q) 32 ∧ vp_in (sn_Y Z q) 32 ∧ vp_in (sn_Z Z q) 32) (h : post (PG, sn_f TM (sn_K Z q) (sn_X Z q) (sn_Y Z q) (sn_Z Z q), CT, SD, FA, CN, PN, SL, NT, CG, FK, FX, FY, FZ, KC, fl_u RG (fun i => TM (ZR (8 * q + i)).toNatClampNeg) 8, CE, RT, OO, OA, OB, OC, BS, BL, HC, SC, ho_K H, ho_X H, ho_Y H, ho_Z H, ho_I H, ho_R H, ho_G H, ho_S H, ZR, sn_K Z, sn_X Z, sn_Y Z, sn_Z Z, TM, PA, PV, HO, CO, CV, NZ, NE, KB, KO, KT)) : ∀ d i : Nat, i + d = 8 → wX_showSnapshot_2 post (nI q) PG FB CT SD FA CN PN SL NT CG FK FX FY FZ KC (d + 1) (nI i) (fl_u RG (fun i => TM (ZR (8 * q + i)).toNatClampNeg) i) CE RT OO OA OB OC BS BL HC SC (ho_K H) (ho_X H) (ho_Y H) (ho_Z H) (ho_I H) (ho_R H) (ho_G H) (ho_S H) ZR (sn_K Z) (sn_X Z) (sn_Y Z) (sn_Z Z) TM PA PV HO CO CV NZ NE KB KO KT := by
  have cq : (nI q).toNatClampNeg = q := nI_clamp (by omega)
  have iq : vp_in (nI q) 32 := vp_in_nI hq (by omega)
  intro d
  induction d with
  | zero =>
    intro i hi
    have e8 : i = 8 := by omega
    subst e8
    have vX : vp_in (sn_X Z (nI q).toNatClampNeg) 32 := by rw [cq]; exact hin.2.1
    have vY : vp_in (sn_Y Z (nI q).toNatClampNeg) 32 := by rw [cq]; exact hin.2.2.1
    have vZ : vp_in (sn_Z Z (nI q).toNatClampNeg) 32 := by rw [cq]; exact hin.2.2.2
    have eK : sn_K Z (nI q).toNatClampNeg = sn_K Z q := congrArg (sn_K Z) cq
    have eX : TM (sn_X Z (nI q).toNatClampNeg).toNatClampNeg = TM (sn_X Z q).toNatClampNeg := by rw [cq]
    unfold sn_f at h
    refine br_t (nI_le (a := 8) (b := 8) (by omega) (by omega)) (And.intro iq (nm_r eK (And.intro iq (And.intro vX (nm_r eX (br_c (fun a => ?_) (fun a => And.intro iq (And.intro vY (And.intro iq (And.intro vZ (xw_flg ?_)))))))))))
    · rw [if_pos a] at h
      exact h
    · rw [if_neg a] at h
      rw [cq]
      exact h
  | succ d ih =>
    intro i hi
    have ci : (nI i).toNatClampNeg = i := nI_clamp (by omega)
    have ii : vp_in (nI i) 8 := vp_in_nI (by omega) (by omega)
    have eI : 8 * nI q + nI i = nI (8 * q + i) := nu_8 q i
    have i256 : vp_in (8 * nI q + nI i) 256 := by rw [eI]; exact vp_in_nI (by omega) (by omega)
    have cI : (8 * nI q + nI i).toNatClampNeg = 8 * q + i := by rw [eI]; exact nI_clamp (by omega)
    have iz : vp_in (ZR (8 * nI q + nI i).toNatClampNeg) 32 := by rw [cI]; exact hin.1 i (by omega)
    have e1 : upd (fl_u RG (fun i => TM (ZR (8 * q + i)).toNatClampNeg) i) (nI i).toNatClampNeg (TM (ZR (8 * nI q + nI i).toNatClampNeg).toNatClampNeg) = fl_u RG (fun i => TM (ZR (8 * q + i)).toNatClampNeg) (i + 1) := by
      rw [ci, cI]
      exact fl_s (v := fun i => TM (ZR (8 * q + i)).toNatClampNeg)
    exact br_f (nI_ge (a := i) (b := 8) (by omega) (by omega)) (And.intro i256 (And.intro iz (And.intro ii (nm_r e1 (nm_r (nI_1 i) (ih (i + 1) (by omega)))))))
theorem xw_show {post : SX → Prop} {q : Nat} {V Re : Nat → Int32} {Fe : Int32} {D : Nat → Prop} (hq : q < 32) (hin : (∀ i, i < 8 → vp_in (ZR (8 * q + i)) 32) ∧ vp_in (sn_X Z q) 32 ∧ vp_in (sn_Y Z q) 32 ∧ vp_in (sn_Z Z q) 32) (hT : ∀ t, D t → TM t = V t) (hS : sn_ok Z ZR V Re Fe (nI q) D) (h : post (PG, Fe, CT, SD, FA, CN, PN, SL, NT, CG, FK, FX, FY, FZ, KC, fl_u RG Re 8, CE, RT, OO, OA, OB, OC, BS, BL, HC, SC, ho_K H, ho_X H, ho_Y H, ho_Z H, ho_I H, ho_R H, ho_G H, ho_S H, ZR, sn_K Z, sn_X Z, sn_Y Z, sn_Z Z, TM, PA, PV, HO, CO, CV, NZ, NE, KB, KO, KT)) : wpX_showSnapshot post (PG, FB, CT, SD, FA, CN, PN, SL, NT, CG, FK, FX, FY, FZ, KC, RG, CE, RT, OO, OA, OB, OC, BS, BL, HC, SC, ho_K H, ho_X H, ho_Y H, ho_Z H, ho_I H, ho_R H, ho_G H, ho_S H, ZR, sn_K Z, sn_X Z, sn_Y Z, sn_Z Z, TM, PA, PV, HO, CO, CV, NZ, NE, KB, KO, KT) (nI q) := by
  have cq : (nI q).toNatClampNeg = q := nI_clamp (by omega)
  unfold sn_ok at hS
  rw [cq] at hS
  have e1 : fl_u RG (fun i => TM (ZR (8 * q + i)).toNatClampNeg) 8 = fl_u RG Re 8 := fl_c (fun i hi => by
    show TM (ZR (8 * q + i)).toNatClampNeg = Re i
    rw [hT _ (hS.1 i hi).1]
    exact (hS.1 i hi).2)
  have e2 : sn_f TM (sn_K Z q) (sn_X Z q) (sn_Y Z q) (sn_Z Z q) = Fe := by
    rw [hS.2.2.2.2]
    unfold sn_f
    rw [hT _ hS.2.1, hT _ hS.2.2.1, hT _ hS.2.2.2.1]
  have w := xw_show2 (post := post) (PG := PG) (FB := FB) (CT := CT) (SD := SD) (FA := FA) (CN := CN) (PN := PN) (SL := SL) (NT := NT) (CG := CG) (FK := FK) (FX := FX) (FY := FY) (FZ := FZ) (KC := KC) hq hin (by rw [e1, e2]; exact h) 8 0 rfl
  rw [fl_0] at w
  exact ⟨9, w⟩
theorem xw_com2 {post : SX → Prop} {pn : Nat} (hpn : pn ≤ 8) (hPA : ∀ i, i < pn → vp_in (PA i) 32) (h : post (PG, FB, CT, SD, FA, CN, 0, SL, NT, CG, FK, FX, FY, FZ, KC, RG, pn_ov pn PA PV CE, RT, OO, OA, OB, OC, BS, BL, HC, SC, ho_K H, ho_X H, ho_Y H, ho_Z H, ho_I H, ho_R H, ho_G H, ho_S H, ZR, sn_K Z, sn_X Z, sn_Y Z, sn_Z Z, TM, PA, PV, HO, CO, CV, NZ, NE, KB, KO, KT)) : ∀ d i : Nat, i + d = pn → wX_commitStores_2 post PG FB CT SD FA CN (nI pn) SL NT CG FK FX FY FZ KC (d + 1) (nI i) RG (pn_ov i PA PV CE) RT OO OA OB OC BS BL HC SC (ho_K H) (ho_X H) (ho_Y H) (ho_Z H) (ho_I H) (ho_R H) (ho_G H) (ho_S H) ZR (sn_K Z) (sn_X Z) (sn_Y Z) (sn_Z Z) TM PA PV HO CO CV NZ NE KB KO KT := by
  intro d
  induction d with
  | zero =>
    intro i hi
    have e : i = pn := by omega
    subst e
    exact br_t (nI_le (by omega) (by omega)) h
  | succ d ih =>
    intro i hi
    have ci : (nI i).toNatClampNeg = i := nI_clamp (by omega)
    have ii : vp_in (nI i) 8 := vp_in_nI (by omega) (by omega)
    have ia : vp_in (PA (nI i).toNatClampNeg) 32 := by rw [ci]; exact hPA i (by omega)
    have e1 : upd (pn_ov i PA PV CE) (PA (nI i).toNatClampNeg).toNatClampNeg (PV (nI i).toNatClampNeg) = pn_ov (i + 1) PA PV CE := by rw [ci]; rfl
    exact br_f (nI_ge (by omega) (by omega)) (And.intro ii (And.intro ii (And.intro ia (nm_r e1 (nm_r (nI_1 i) (ih (i + 1) (by omega)))))))
theorem xw_com {post : SX → Prop} {pn : Nat} {Mem : Nat → Int32} (hpn : pn ≤ 8) (hI : pn_I pn PA PV CE Mem) (h : post (PG, FB, CT, SD, FA, CN, 0, SL, NT, CG, FK, FX, FY, FZ, KC, RG, Mem, RT, OO, OA, OB, OC, BS, BL, HC, SC, ho_K H, ho_X H, ho_Y H, ho_Z H, ho_I H, ho_R H, ho_G H, ho_S H, ZR, sn_K Z, sn_X Z, sn_Y Z, sn_Z Z, TM, PA, PV, HO, CO, CV, NZ, NE, KB, KO, KT)) : wpX_commitStores post (PG, FB, CT, SD, FA, CN, nI pn, SL, NT, CG, FK, FX, FY, FZ, KC, RG, CE, RT, OO, OA, OB, OC, BS, BL, HC, SC, ho_K H, ho_X H, ho_Y H, ho_Z H, ho_I H, ho_R H, ho_G H, ho_S H, ZR, sn_K Z, sn_X Z, sn_Y Z, sn_Z Z, TM, PA, PV, HO, CO, CV, NZ, NE, KB, KO, KT) := by
  refine ⟨pn + 1, xw_com2 hpn hI.1 ?_ pn 0 (Nat.zero_add pn)⟩
  rw [hI.2.2]
  exact h
theorem xw_rec12 {post : SX → Prop} {s k m pn sc : Nat} {e : Int32} {V Mem Re : Nat → Int32} {Fe : Int32} (hs : s < 4) (hm : HC s = nI m) (hm2 : m ≤ 16) (hk : 16 * s ≤ k) (hk2 : k < 16 * s + m) (hsc : sc ≤ 8) (hop : ∀ o, o ∈ ho_seg H (16 * s) m → bk_op s sc o) (hsn : sn_in s sc Z ZR) (hks : ¬ oq_s (H k) < 0) (hpn : pn ≤ 8) (hI : pn_I pn PA PV CE Mem)
    (K : ∀ TM : Nat → Int32, post (PG, Fe, CT + e, SD + e, FA, CN, 0, SL, NT, CG, FK, FX, FY, FZ, KC, fl_u RG Re 8, Mem, RT, OO, OA, OB, OC, BS, BL, HC, SC, ho_K H, ho_X H, ho_Y H, ho_Z H, ho_I H, ho_R H, ho_G H, ho_S H, ZR, sn_K Z, sn_X Z, sn_Y Z, sn_Z Z, TM, PA, PV, HO, CO, CV, NZ, NE, KB, KO, KT)) :
    ∀ (d j : Nat) (TM : Nat → Int32) (D : Nat → Prop), j + d = 16 * s + m → 16 * s ≤ j → (∀ t, D t → TM t = V t) → ho_rec PG RT V e Mem (sn_ok Z ZR V Re Fe (oq_s (H k))) (ho_seg H j d) D → wX_recover_12 post (nI s) (nI k) e (d + 1) (nI j) PG FB CT SD FA CN (nI pn) SL NT CG FK FX FY FZ KC RG CE RT OO OA OB OC BS BL HC SC (ho_K H) (ho_X H) (ho_Y H) (ho_Z H) (ho_I H) (ho_R H) (ho_G H) (ho_S H) ZR (sn_K Z) (sn_X Z) (sn_Y Z) (sn_Z Z) TM PA PV HO CO CV NZ NE KB KO KT := by
  have c4 : (nI s).toNatClampNeg = s := nI_clamp (by omega)
  have i4 : vp_in (nI s) 4 := vp_in_nI hs (by omega)
  have e2 : 16 * nI s + HC (nI s).toNatClampNeg = nI (16 * s + m) := by rw [c4, hm]; exact nu_16 s m
  have ck : (nI k).toNatClampNeg = k := nI_clamp (by omega)
  have ik : vp_in (nI k) 64 := vp_in_nI (by omega) (by omega)
  have hmem : ∀ j, 16 * s ≤ j → j < 16 * s + m → H j ∈ ho_seg H (16 * s) m := by
    intro j j1 j2
    have := ho_seg_i (H := H) (b := 16 * s) (m := m) (j := j - 16 * s) (by omega)
    rw [show 16 * s + (j - 16 * s) = j by omega] at this
    exact this
  intro d
  induction d with
  | zero =>
    intro j TM D hj hj2 hT hr
    have hle : 16 * nI s + HC (nI s).toNatClampNeg ≤ nI j := by rw [e2]; exact nI_le (by omega) (by omega)
    obtain ⟨q, q1, q2, q3⟩ := (hop _ (hmem k hk hk2)).2.1 hks
    have eq : ho_S H (nI k).toNatClampNeg = nI q := (congrArg (ho_S H) ck).trans q3
    refine And.intro i4 (br_t hle (And.intro ik ?_))
    rw [eq]
    have hr' : sn_ok Z ZR V Re Fe (nI q) D := by rw [← q3]; exact hr
    refine xw_show (by omega) (hsn q q1 q2) hT hr' ?_
    refine xw_com hpn hI ?_
    exact nm_e (nm_e (K TM))
  | succ d ih =>
    intro j TM D hj hj2 hT hr
    have hle : ¬ 16 * nI s + HC (nI s).toNatClampNeg ≤ nI j := by rw [e2]; exact nI_ge (by omega) (by omega)
    have cj : (nI j).toNatClampNeg = j := nI_clamp (by omega)
    have ij : vp_in (nI j) 64 := vp_in_nI (by omega) (by omega)
    have ob := hop _ (hmem j hj2 (by omega))
    have skip : ¬ (oq_s (H j) < 0 ∧ oq_g (H j) < e) → wX_recover_12 post (nI s) (nI k) e (d + 1) (nI (j + 1)) PG FB CT SD FA CN (nI pn) SL NT CG FK FX FY FZ KC RG CE RT OO OA OB OC BS BL HC SC (ho_K H) (ho_X H) (ho_Y H) (ho_Z H) (ho_I H) (ho_R H) (ho_G H) (ho_S H) ZR (sn_K Z) (sn_X Z) (sn_Y Z) (sn_Z Z) TM PA PV HO CO CV NZ NE KB KO KT := by
      intro hn
      rcases hr with ⟨a, _⟩ | ⟨_, r⟩
      · exact absurd a hn
      · exact ih (j + 1) TM D (by omega) (by omega) hT r
    refine And.intro i4 (br_f hle (And.intro ij (br_c (fun a => nm_r (nI_1 j) (skip ?_)) (fun a => And.intro ij (br_c (fun b => nm_r (nI_1 j) (skip ?_)) (fun b => ?_))))))
    · rw [cj] at a
      exact fun z => absurd z.1 (Int32.not_lt.mpr a)
    · rw [cj] at b
      exact fun z => absurd z.2 (Int32.not_lt.mpr b)
    · rw [cj] at a b
      rcases hr with ⟨_, u, p, g, r⟩ | ⟨n, _⟩
      · refine xw_perf_p (by omega) ob.1 p (by rw [ho_flt_u hT u]; exact g.1) (nm_r (nI_1 j) (ih (j + 1) _ _ (by omega) (by omega) (fun t ht => ?_) r))
        have ev : ho_val TM (H j) = V (oq_r (H j)).toNatClampNeg := by
          rw [ho_val_u hT u p.1, g.2 p.2]
          unfold ho_eff
          rw [if_neg p.1]
        by_cases e : t = (oq_r (H j)).toNatClampNeg
        · rw [e, pk_us, ev]
        · rw [pk_un e]
          rcases ht with ht | ht
          · exact hT t ht
          · exact absurd ht.2 e
      · exact absurd ⟨Int32.not_le.mp a, Int32.not_le.mp b⟩ n
theorem xw_recov {post : SX → Prop} {s k m pn sc : Nat} {V Mem Re : Nat → Int32} {Fe : Int32} {D : Nat → Prop} (hs : s < 4) (hm : HC s = nI m) (hm2 : m ≤ 16) (hk : 16 * s ≤ k) (hk2 : k < 16 * s + m) (hsc : sc ≤ 8) (hop : ∀ o, o ∈ ho_seg H (16 * s) m → bk_op s sc o) (hsn : sn_in s sc Z ZR) (hks : ¬ oq_s (H k) < 0) (hpn : pn ≤ 8) (hI : pn_I pn PA PV CE Mem) (hT : ∀ t, D t → TM t = V t) (hr : ho_rec PG RT V (oq_g (H k)) Mem (sn_ok Z ZR V Re Fe (oq_s (H k))) (ho_seg H (k + 1) (16 * s + m - (k + 1))) D)
    (K : ∀ TM : Nat → Int32, post (PG, Fe, CT + oq_g (H k), SD + oq_g (H k), FA, CN, 0, SL, NT, CG, FK, FX, FY, FZ, KC, fl_u RG Re 8, Mem, RT, OO, OA, OB, OC, BS, BL, HC, SC, ho_K H, ho_X H, ho_Y H, ho_Z H, ho_I H, ho_R H, ho_G H, ho_S H, ZR, sn_K Z, sn_X Z, sn_Y Z, sn_Z Z, TM, PA, PV, HO, CO, CV, NZ, NE, KB, KO, KT)) : wpX_recover post (PG, FB, CT, SD, FA, CN, nI pn, SL, NT, CG, FK, FX, FY, FZ, KC, RG, CE, RT, OO, OA, OB, OC, BS, BL, HC, SC, ho_K H, ho_X H, ho_Y H, ho_Z H, ho_I H, ho_R H, ho_G H, ho_S H, ZR, sn_K Z, sn_X Z, sn_Y Z, sn_Z Z, TM, PA, PV, HO, CO, CV, NZ, NE, KB, KO, KT) (nI s) (nI k) := by
  have ck : (nI k).toNatClampNeg = k := nI_clamp (by omega)
  have ik : vp_in (nI k) 64 := vp_in_nI (by omega) (by omega)
  have eg : ho_G H (nI k).toNatClampNeg = oq_g (H k) := congrArg (ho_G H) ck
  exact And.intro ik (nm_r eg (nm_r (nI_1 k) ⟨_, xw_rec12 hs hm hm2 hk hk2 hsc hop hsn hks hpn hI K (16 * s + m - (k + 1)) (k + 1) TM D (by omega) (by omega) hT hr⟩))
theorem gu_ld6 {p ad : Int32} {rt : Nat → Int32} : gu_ld p rt ad ≠ 6 := by
  unfold gu_ld
  by_cases a : ad < 0
  · rw [if_pos a]; decide
  · rw [if_neg a]
    by_cases b : 8 * p ≤ ad
    · rw [if_pos b]; decide
    · rw [if_neg b]
      by_cases c : rt (ad >>> ((3 : Int32) &&& 31)).toNatClampNeg = 0
      · rw [if_pos c]; decide
      · rw [if_neg c]; decide
theorem gu_sv6 {p ad : Int32} {rt : Nat → Int32} : gu_sv p rt ad ≠ 6 := by
  unfold gu_sv
  by_cases a : ad < 0
  · rw [if_pos a]; decide
  · rw [if_neg a]
    by_cases b : 8 * p ≤ ad
    · rw [if_pos b]; decide
    · rw [if_neg b]
      by_cases c : 2 ≤ rt (ad >>> ((3 : Int32) &&& 31)).toNatClampNeg
      · rw [if_pos c]; decide
      · rw [if_neg c]; decide
theorem ho_flt6 {pg code : Int32} {rt V : Nat → Int32} {o : ho_Op} (hc : code ≠ 0) (h : ho_flt pg rt V o = code) : oq_k o = 7 ↔ code = 6 := by
  unfold ho_flt at h
  constructor
  · intro k
    have n9 : ¬ oq_k o = 9 := by rw [k]; decide
    have n10 : ¬ oq_k o = 10 := by rw [k]; decide
    rw [if_neg n9, if_neg n10, if_pos k] at h
    by_cases z : V (oq_y o).toNatClampNeg = 0
    · rw [if_pos z] at h; exact h.symm
    · rw [if_neg z] at h; exact absurd h.symm hc
  · intro e
    by_cases n9 : oq_k o = 9
    · rw [if_pos n9, e] at h
      exact absurd h gu_ld6
    · by_cases n10 : oq_k o = 10
      · rw [if_neg n9, if_pos n10, e] at h
        exact absurd h gu_sv6
      · by_cases k : oq_k o = 7
        · exact k
        · rw [if_neg n9, if_neg n10, if_neg k] at h
          exact absurd h.symm hc
theorem xw_run49 {post : Int32 → SX → Prop} {s m sc : Nat} {e code ad : Int32} {V Mf Re : Nat → Int32} {Fe : Int32} {S : Int32 → (Nat → Prop) → Prop} {Q : (Nat → Prop) → (Nat → Int32) → Prop} (hp : gu_pg PG) (hs : s < 4) (hm : HC s = nI m) (hm2 : m ≤ 16) (hsc : sc ≤ 8) (hop : ∀ o, o ∈ ho_seg H (16 * s) m → bk_op s sc o) (hsn : sn_in s sc Z ZR) (hS : code ≠ 0 → ∀ s D, S s D → sn_ok Z ZR V Re Fe s D)
    (KQ : ∀ (pn : Nat) (TM PA PV : Nat → Int32) (D : Nat → Prop) (Mem : Nat → Int32), pn ≤ 8 → pn_I pn PA PV CE Mem → (∀ t, D t → TM t = V t) → Q D Mem → wX_runBlock_49 post (nI s) (nI (16 * s)) 1 (nI (16 * s + m)) PG FB CT SD FA CN (nI pn) SL NT CG FK FX FY FZ KC RG CE RT OO OA OB OC BS BL HC SC (ho_K H) (ho_X H) (ho_Y H) (ho_Z H) (ho_I H) (ho_R H) (ho_G H) (ho_S H) ZR (sn_K Z) (sn_X Z) (sn_Y Z) (sn_Z Z) TM PA PV HO CO CV NZ NE KB KO KT)
    (KF : code ≠ 0 → ∀ TM PA PV : Nat → Int32, post code (PG, Fe, CT + e, SD + e, if code = 6 then FA else ad, CN, 0, SL, NT, CG, FK, FX, FY, FZ, KC, fl_u RG Re 8, Mf, RT, OO, OA, OB, OC, BS, BL, HC, SC, ho_K H, ho_X H, ho_Y H, ho_Z H, ho_I H, ho_R H, ho_G H, ho_S H, ZR, sn_K Z, sn_X Z, sn_Y Z, sn_Z Z, TM, PA, PV, HO, CO, CV, NZ, NE, KB, KO, KT)) :
    ∀ (d j pn : Nat) (TM PA PV : Nat → Int32) (D : Nat → Prop) (Mem : Nat → Int32), j + d = 16 * s + m → 16 * s ≤ j → pn + ho_cnt (ho_seg H j d) ≤ 7 → pn_I pn PA PV CE Mem → (∀ t, D t → TM t = V t) → ho_run PG RT V e code ad Mf S Q (ho_seg H j d) D Mem → wX_runBlock_49 post (nI s) (nI (16 * s)) (d + 1) (nI j) PG FB CT SD FA CN (nI pn) SL NT CG FK FX FY FZ KC RG CE RT OO OA OB OC BS BL HC SC (ho_K H) (ho_X H) (ho_Y H) (ho_Z H) (ho_I H) (ho_R H) (ho_G H) (ho_S H) ZR (sn_K Z) (sn_X Z) (sn_Y Z) (sn_Z Z) TM PA PV HO CO CV NZ NE KB KO KT := by
  have c4 : (nI s).toNatClampNeg = s := nI_clamp (by omega)
  have i4 : vp_in (nI s) 4 := vp_in_nI hs (by omega)
  have e2 : nI (16 * s) + HC (nI s).toNatClampNeg = nI (16 * s + m) := by rw [c4, hm]; exact nI_add _ _
  have hmem : ∀ j, 16 * s ≤ j → j < 16 * s + m → H j ∈ ho_seg H (16 * s) m := by
    intro j j1 j2
    have := ho_seg_i (H := H) (b := 16 * s) (m := m) (j := j - 16 * s) (by omega)
    rw [show 16 * s + (j - 16 * s) = j by omega] at this
    exact this
  intro d
  induction d with
  | zero =>
    intro j pn TM PA PV D Mem hj hj2 hpn hI hT hr
    have ej : j = 16 * s + m := by omega
    subst ej
    exact KQ pn TM PA PV D Mem (by omega) hI hT hr
  | succ d ih =>
    intro j pn TM PA PV D Mem hj hj2 hpn hI hT hr
    have hle : ¬ nI (16 * s) + HC (nI s).toNatClampNeg ≤ nI j := by rw [e2]; exact nI_ge (by omega) (by omega)
    have ob := hop _ (hmem j hj2 (by omega))
    have hcnt : ho_cnt (ho_seg H j (d + 1)) = (if oq_k (H j) = 10 then 1 else 0) + ho_cnt (ho_seg H (j + 1) d) := rfl
    rw [hcnt] at hpn
    obtain ⟨u, r⟩ := hr
    refine And.intro i4 (br_f hle ?_)
    rcases r with ⟨c0, sn, ge, ft, ead, eM, rr⟩ | ⟨gl, gd, pl, rr⟩
    · refine xw_perf_bad hp (by omega) ob.1 c0 ((ho_flt_u hT u).trans ft) (br_f c0 ?_)
      have eF : (if oq_k (H j) = 7 then FA else ho_ad TM (H j)) = if code = 6 then FA else ad := by
        have w := ho_flt6 c0 ft
        by_cases k : oq_k (H j) = 7
        · rw [if_pos k, if_pos (w.mp k)]
        · rw [if_neg k, if_neg (fun z => k (w.mpr z)), ho_ad_u hT u, ead k]
      rw [eF]
      subst eM
      have rr' : ho_rec PG RT V (oq_g (H j)) Mem (sn_ok Z ZR V Re Fe (oq_s (H j))) (ho_seg H (j + 1) (16 * s + m - (j + 1))) D := by
        rw [show 16 * s + m - (j + 1) = d by omega, ge]
        exact ho_rec_S (hS c0 _) _ _ rr
      refine xw_recov hs hm hm2 hj2 (by omega) hsc hop hsn sn (by omega) hI hT rr' (fun TM' => ?_)
      rw [ge]
      exact KF c0 TM' PA PV
    · refine xw_perf_ok hp (by omega) ob.1 (by omega) hI ((ho_flt_u hT u).trans gd.1) (fun pn' PA' PV' TM' k1 k2 k3 k4 => br_t rfl (nm_r (nI_1 j) (ih (j + 1) pn' TM' PA' PV' (ho_D D (H j)) (ho_mem V Mem (H j)) (by omega) (by omega) (by omega) ?_ (fun t ht => ?_) rr)))
      · rw [← ho_mem_u hT u]
        exact k2
      · by_cases k : oq_k (H j) = 10
        · rw [k3 k]
          rcases ht with ht | ht
          · exact hT t ht
          · exact absurd k ht.1
        · rw [k4 k]
          by_cases e : t = (oq_r (H j)).toNatClampNeg
          · rw [e, pk_us, ho_eff_u hT u]
            exact (gd.2 k).symm
          · rw [pk_un e]
            rcases ht with ht | ht
            · exact hT t ht
            · exact absurd ht.2 e
end
end
section
section
/-! the condition, the end of a block, runBlock -/
theorem gh_0 (z n c v : Int32) : gu_hold z n c v 0 = 1 := by
  unfold gu_hold
  rw [if_pos rfl]
theorem gh_1 (z n c v : Int32) : gu_hold z n c v 1 = if z = 1 then 1 else 0 := by
  unfold gu_hold
  rw [if_neg (by decide), if_pos rfl]
theorem gh_2 (z n c v : Int32) : gu_hold z n c v 2 = if z = 0 then 1 else 0 := by
  unfold gu_hold
  rw [if_neg (by decide), if_neg (by decide), if_pos rfl]
theorem gh_3 (z n c v : Int32) : gu_hold z n c v 3 = if n = 1 then 1 else 0 := by
  unfold gu_hold
  rw [if_neg (by decide), if_neg (by decide), if_neg (by decide), if_pos rfl]
theorem gh_4 (z n c v : Int32) : gu_hold z n c v 4 = if n = 0 then 1 else 0 := by
  unfold gu_hold
  rw [if_neg (by decide), if_neg (by decide), if_neg (by decide), if_neg (by decide), if_pos rfl]
theorem gh_5 (z n c v : Int32) : gu_hold z n c v 5 = if c = 1 then 1 else 0 := by
  unfold gu_hold
  rw [if_neg (by decide), if_neg (by decide), if_neg (by decide), if_neg (by decide), if_neg (by decide), if_pos rfl]
theorem gh_6 (z n c v : Int32) : gu_hold z n c v 6 = if v = 1 then 1 else 0 := by
  unfold gu_hold
  rw [if_neg (by decide), if_neg (by decide), if_neg (by decide), if_neg (by decide), if_neg (by decide), if_neg (by decide), if_pos rfl]
theorem gh_7 (z n c v : Int32) : gu_hold z n c v 7 = if n = v then 0 else 1 := by
  unfold gu_hold
  rw [if_neg (by decide), if_neg (by decide), if_neg (by decide), if_neg (by decide), if_neg (by decide), if_neg (by decide), if_neg (by decide)]
variable {PG FB CT SD FA CN PN SL NT CG FK FX FY FZ KC : Int32} {RG CE RT OO OA OB OC BS BL HC SC ZR TM PA PV HO CO CV NZ NE KB KO KT : Nat → Int32} {H : Nat → ho_Op} {Z : Nat → ho_Sn}
theorem xw_c30 {post : Int32 → Prop} {z n c v a : Int32} (ha : vp_in a 8) (hb : gu_bt z n c v FB) (h : post (gu_hold z n c v a)) : wX_conditionHolds_30 post a n v PG FB CT SD FA CN PN SL NT CG FK FX FY FZ KC RG CE RT OO OA OB OC BS BL HC SC (ho_K H) (ho_X H) (ho_Y H) (ho_Z H) (ho_I H) (ho_R H) (ho_G H) (ho_S H) ZR (sn_K Z) (sn_X Z) (sn_Y Z) (sn_Z Z) TM PA PV HO CO CV NZ NE KB KO KT := by
  have b1 : FB &&& 1 = z := gu_bt_1 hb
  have b4 : FB &&& 4 = 4 * c := gu_bt_4 hb
  obtain ⟨hz, hn, hc, hv, _⟩ := hb
  obtain ⟨j, hj, rfl⟩ := vp_in_of ha (by decide)
  have cs : j = 0 ∨ j = 1 ∨ j = 2 ∨ j = 3 ∨ j = 4 ∨ j = 5 ∨ j = 6 ∨ j = 7 := by omega
  rcases cs with rfl | rfl | rfl | rfl | rfl | rfl | rfl | rfl
  · have w : post (gu_hold z n c v 0) := h
    rw [gh_0] at w
    exact br_t rfl w
  · have w : post (gu_hold z n c v 1) := h
    rw [gh_1] at w
    refine br_f (by decide) (br_f (by decide) ?_)
    rcases hz with rfl | rfl
    · rw [if_neg (by decide)] at w
      exact br_t b1 (br_t rfl (br_f (by decide) w))
    · rw [if_pos rfl] at w
      exact br_f (by rw [b1]; decide) (br_t rfl (br_t rfl w))
  · have w : post (gu_hold z n c v 2) := h
    rw [gh_2] at w
    refine br_f (by decide) (br_f (by decide) ?_)
    rcases hz with rfl | rfl
    · rw [if_pos rfl] at w
      exact br_t b1 (br_f (by decide) (br_t rfl w))
    · rw [if_neg (by decide)] at w
      exact br_f (by rw [b1]; decide) (br_f (by decide) (br_f (by decide) w))
  · have w : post (gu_hold z n c v 3) := h
    rw [gh_3] at w
    refine br_f (by decide) (br_t (by decide) (br_f (by decide) (br_t rfl ?_)))
    exact br_c (fun p => by rw [if_pos p] at w; exact w) (fun p => by rw [if_neg p] at w; exact w)
  · have w : post (gu_hold z n c v 4) := h
    rw [gh_4] at w
    refine br_f (by decide) (br_t (by decide) (br_f (by decide) (br_f (by decide) ?_)))
    exact br_c (fun p => by rw [if_pos p] at w; exact w) (fun p => by rw [if_neg p] at w; exact w)
  · have w : post (gu_hold z n c v 5) := h
    rw [gh_5] at w
    refine br_f (by decide) (br_t (by decide) (br_t (by decide) (br_t rfl ?_)))
    rcases hc with rfl | rfl
    · rw [if_neg (by decide)] at w
      exact br_t (by rw [b4]; decide) w
    · rw [if_pos rfl] at w
      exact br_f (by rw [b4]; decide) w
  · have w : post (gu_hold z n c v 6) := h
    rw [gh_6] at w
    refine br_f (by decide) (br_t (by decide) (br_t (by decide) (br_f (by decide) (br_t rfl ?_))))
    rcases hv with rfl | rfl
    · rw [if_neg (by decide)] at w
      exact And.intro narrow_b0 w
    · rw [if_pos rfl] at w
      exact And.intro narrow_b1 w
  · have w : post (gu_hold z n c v 7) := h
    rw [gh_7] at w
    refine br_f (by decide) (br_t (by decide) (br_t (by decide) (br_f (by decide) (br_f (by decide) ?_))))
    exact br_c (fun p => by rw [if_pos p] at w; exact w) (fun p => by rw [if_neg p] at w; exact w)
theorem xw_cond {post : Int32 → Prop} {z n c v a : Int32} (ha : vp_in a 8) (hb : gu_bt z n c v FB) (h : post (gu_hold z n c v a)) : wpX_conditionHolds post (PG, FB, CT, SD, FA, CN, PN, SL, NT, CG, FK, FX, FY, FZ, KC, RG, CE, RT, OO, OA, OB, OC, BS, BL, HC, SC, ho_K H, ho_X H, ho_Y H, ho_Z H, ho_I H, ho_R H, ho_G H, ho_S H, ZR, sn_K Z, sn_X Z, sn_Y Z, sn_Z Z, TM, PA, PV, HO, CO, CV, NZ, NE, KB, KO, KT) a := by
  have b2 : FB &&& 2 = 2 * n := gu_bt_2 hb
  have b8 : FB &&& 8 = 8 * v := gu_bt_8 hb
  have k := xw_c30 (PG := PG) (CT := CT) (SD := SD) (FA := FA) (CN := CN) (PN := PN) (SL := SL) (NT := NT) (CG := CG) (FK := FK) (FX := FX) (FY := FY) (FZ := FZ) (KC := KC) (RG := RG) (CE := CE) (RT := RT) (OO := OO) (OA := OA) (OB := OB) (OC := OC) (BS := BS) (BL := BL) (HC := HC) (SC := SC) (ZR := ZR) (TM := TM) (PA := PA) (PV := PV) (HO := HO) (CO := CO) (CV := CV) (NZ := NZ) (NE := NE) (KB := KB) (KO := KO) (KT := KT) (H := H) (Z := Z) ha hb h
  obtain ⟨hz, hn, hc, hv, _⟩ := hb
  rcases hn with rfl | rfl
  · refine br_t (by rw [b2]; decide) ?_
    rcases hv with rfl | rfl
    · exact br_t (by rw [b8]; decide) k
    · exact br_f (by rw [b8]; decide) k
  · refine br_f (by rw [b2]; decide) ?_
    rcases hv with rfl | rfl
    · exact br_t (by rw [b8]; decide) k
    · exact br_f (by rw [b8]; decide) k
theorem xw_exit {post : Int32 → SX → Prop} {s m n sc st pn : Nat} {V Mem : Nat → Int32} {D : Nat → Prop} {g : gu_G} {z nn c v : Int32} (hs : s < 4) (hm : HC s = nI m) (hm2 : m ≤ 16) (hL : BL s = nI n) (hn : 1 ≤ n) (hst : st + n ≤ 40) (hSC : SC s = nI sc) (hsc : 1 ≤ sc ∧ sc ≤ 8) (hsn : sn_in s sc Z ZR) (hA : ∀ j, vp_in (OA j) 8) (hb : gu_bt z nn c v g.2.1) (hpn : pn ≤ 8) (hI : pn_I pn PA PV CE Mem) (hT : ∀ t, D t → TM t = V t) (hQ : bk_Q Z ZR V g (8 * s + sc - 1) D Mem)
    (K : post (-1) (PG, g.2.1, gu_pc (OO (st + n - 1)) (gu_hold z nn c v (OA (st + n - 1))) (OC (st + n - 1)) (nI (st + n - 1)), SD + nI n, FA, CN, 0, SL, NT, CG, FK, FX, FY, FZ, KC, fl_u RG g.1 8, g.2.2, RT, OO, OA, OB, OC, BS, BL, HC, SC, ho_K H, ho_X H, ho_Y H, ho_Z H, ho_I H, ho_R H, ho_G H, ho_S H, ZR, sn_K Z, sn_X Z, sn_Y Z, sn_Z Z, TM, PA, PV, HO, CO, CV, NZ, NE, KB, KO, KT)) : wX_runBlock_49 post (nI s) (nI (16 * s)) 1 (nI (16 * s + m)) PG FB (nI st) SD FA CN (nI pn) SL NT CG FK FX FY FZ KC RG CE RT OO OA OB OC BS BL HC SC (ho_K H) (ho_X H) (ho_Y H) (ho_Z H) (ho_I H) (ho_R H) (ho_G H) (ho_S H) ZR (sn_K Z) (sn_X Z) (sn_Y Z) (sn_Z Z) TM PA PV HO CO CV NZ NE KB KO KT := by
  have c4 : (nI s).toNatClampNeg = s := nI_clamp (by omega)
  have i4 : vp_in (nI s) 4 := vp_in_nI hs (by omega)
  have hle : nI (16 * s) + HC (nI s).toNatClampNeg ≤ nI (16 * s + m) := by rw [c4, hm, nI_add]; exact nI_le (by omega) (by omega)
  have e1 : nI st + BL (nI s).toNatClampNeg - 1 = nI (st + n - 1) := by
    rw [c4, hL, nI_add, show st + n = (st + n - 1) + 1 by omega]
    exact nI_pred (st + n - 1)
  have e2 : 8 * nI s + SC (nI s).toNatClampNeg - 1 = nI (8 * s + sc - 1) := by
    rw [c4, hSC, nu_8, show 8 * s + sc = (8 * s + sc - 1) + 1 by omega]
    exact nI_pred (8 * s + sc - 1)
  have e3 : SD + BL (nI s).toNatClampNeg = SD + nI n := by rw [c4, hL]
  have cl : (nI (st + n - 1)).toNatClampNeg = st + n - 1 := nI_clamp (by omega)
  have il : vp_in (nI (st + n - 1)) 40 := vp_in_nI (by omega) (by omega)
  refine And.intro i4 (br_t hle (And.intro i4 (nm_r e1 (And.intro i4 ?_))))
  rw [e2]
  refine xw_show (by omega) (hsn (8 * s + sc - 1) (by omega) (by omega)) hT hQ.2 ?_
  refine xw_com hpn hI ?_
  have eM := hQ.1
  subst eM
  refine And.intro i4 (nm_r e3 (And.intro il (br_c (fun a => And.intro il ?_) (fun a => ?_))))
  · rw [cl] at a
    rw [a, gP_11] at K
    rw [cl]
    refine xw_cond (hA _) hb (br_c (fun p => ?_) (fun p => ?_))
    · rw [if_pos p] at K
      exact br_t rfl (nm_e K)
    · rw [if_neg p] at K
      refine br_f (by decide) (And.intro il ?_)
      rw [cl]
      exact nm_e K
  · rw [cl] at a
    unfold gu_pc at K
    rw [if_neg a] at K
    exact br_t rfl (nm_e K)
theorem xw_rb2 {post : Int32 → SX → Prop} {s : Nat} (h : ∃ n49 : Nat, wX_runBlock_49 post (nI s) (nI (16 * s)) n49 (nI (16 * s)) PG FB CT SD FA CN 0 SL NT CG FK FX FY FZ KC RG CE RT OO OA OB OC BS BL HC SC (ho_K H) (ho_X H) (ho_Y H) (ho_Z H) (ho_I H) (ho_R H) (ho_G H) (ho_S H) ZR (sn_K Z) (sn_X Z) (sn_Y Z) (sn_Z Z) (upd (fl_u TM RG 8) 8 FB) PA PV HO CO CV NZ NE KB KO KT) : ∀ d i : Nat, i + d = 8 → wX_runBlock_2 post (nI s) PG FB CT SD FA CN PN SL NT CG FK FX FY FZ KC (d + 1) (nI i) RG CE RT OO OA OB OC BS BL HC SC (ho_K H) (ho_X H) (ho_Y H) (ho_Z H) (ho_I H) (ho_R H) (ho_G H) (ho_S H) ZR (sn_K Z) (sn_X Z) (sn_Y Z) (sn_Z Z) (fl_u TM RG i) PA PV HO CO CV NZ NE KB KO KT := by
  intro d
  induction d with
  | zero =>
    intro i hi
    have e8 : i = 8 := by omega
    subst e8
    exact br_t (nI_le (a := 8) (b := 8) (by omega) (by omega)) (nm_e (nm_r (pk_mul 16 s) h))
  | succ d ih =>
    intro i hi
    have ci : (nI i).toNatClampNeg = i := nI_clamp (by omega)
    have i8 : vp_in (nI i) 8 := vp_in_nI (by omega) (by omega)
    have i32 : vp_in (nI i) 32 := vp_in_nI (by omega) (by omega)
    have e1 : upd (fl_u TM RG i) (nI i).toNatClampNeg (RG (nI i).toNatClampNeg) = fl_u TM RG (i + 1) := by
      rw [ci]
      exact fl_s
    exact br_f (nI_ge (a := i) (b := 8) (by omega) (by omega)) (And.intro i8 (And.intro i32 (nm_r e1 (nm_r (nI_1 i) (ih (i + 1) (by omega))))))
theorem gu_R_hi {o a b c : Int32} {R : Nat → Int32} {F : Int32} {M : Nat → Int32} {i : Nat} (ha : vp_in a 8) (hi : 8 ≤ i) : gu_R o a b c R F M i = R i := by
  have hn : i ≠ a.toNatClampNeg := by have := vi_lt ha; omega
  unfold gu_R
  by_cases h0 : o = 0
  · rw [if_pos h0, pk_un hn]
  rw [if_neg h0]
  by_cases h8 : o = 8
  · rw [if_pos h8, pk_un hn]
  rw [if_neg h8]
  by_cases h9 : o = 9
  · rw [if_pos h9, pk_un hn]
  rw [if_neg h9]
  by_cases h10 : o = 10
  · rw [if_pos h10]
  rw [if_neg h10]
  by_cases h11 : o = 11
  · rw [if_pos h11]
  rw [if_neg h11, pk_un hn]
theorem gu_seq_hi {O A B C : Nat → Int32} {st : Nat} {g : gu_G} {i : Nat} (hA : ∀ j, vp_in (A j) 8) (hi : 8 ≤ i) : ∀ k : Nat, (gu_seq O A B C st g k).1 i = g.1 i
  | 0 => rfl
  | k + 1 => (gu_R_hi (hA (st + k)) hi).trans (gu_seq_hi hA hi k)
theorem fl_seq {O A B C : Nat → Int32} {st k : Nat} {R : Nat → Int32} {F : Int32} {M : Nat → Int32} (hA : ∀ j, vp_in (A j) 8) : fl_u R (gu_seq O A B C st (R, F, M) k).1 8 = (gu_seq O A B C st (R, F, M) k).1 := by
  funext i
  unfold fl_u
  by_cases c : i < 8
  · rw [if_pos c]
  · rw [if_neg c]
    exact (gu_seq_hi (g := (R, F, M)) hA (by omega) k).symm
theorem D0_tm {V : Nat → Int32} (v1 : ∀ i, i < 8 → V i = RG i) (v2 : V 8 = FB) : ∀ t, t < 9 → upd (fl_u TM RG 8) 8 FB t = V t := by
  intro t ht
  by_cases e : t = 8
  · rw [e, pk_us, v2]
  · rw [pk_un e, fl_at (by omega), v1 t (by omega)]
theorem pn_I0 {M : Nat → Int32} : pn_I 0 PA PV M M := ⟨fun i hi => absurd hi (Nat.not_lt_zero i), fun i j _ hj => absurd hj (Nat.not_lt_zero j), rfl⟩
/-- a block that runs to its end -/
theorem xw_rb_ok {post : Int32 → SX → Prop} {s m n sc st lg cn : Nat} {z nn c v : Int32} (hp : gu_pg PG) (hpr : pr_ok OO OA OB) (hs : s < 4) (hcn : cn ≤ 40) (hL : BL s = nI n) (hm : HC s = nI m) (hSC : SC s = nI sc) (hC : bk_C n lg st cn OO) (hO : bk_Ok OO OA OB OC st n s m sc H Z ZR) (nf : ∀ i, i < n → gq_f PG RT OO OA OB OC st (RG, FB, CE) i = 0) (hb : gu_bt z nn c v (gu_seq OO OA OB OC st (RG, FB, CE) n).2.1)
    (K : ∀ TM PA PV : Nat → Int32, post (-1) (PG, (gu_seq OO OA OB OC st (RG, FB, CE) n).2.1, gu_pc (OO (st + n - 1)) (gu_hold z nn c v (OA (st + n - 1))) (OC (st + n - 1)) (nI (st + n - 1)), SD + nI n, FA, CN, 0, SL, NT, CG, FK, FX, FY, FZ, KC, (gu_seq OO OA OB OC st (RG, FB, CE) n).1, (gu_seq OO OA OB OC st (RG, FB, CE) n).2.2, RT, OO, OA, OB, OC, BS, BL, HC, SC, ho_K H, ho_X H, ho_Y H, ho_Z H, ho_I H, ho_R H, ho_G H, ho_S H, ZR, sn_K Z, sn_X Z, sn_Y Z, sn_Z Z, TM, PA, PV, HO, CO, CV, NZ, NE, KB, KO, KT)) : wpX_runBlock post (PG, FB, nI st, SD, FA, CN, PN, SL, NT, CG, FK, FX, FY, FZ, KC, RG, CE, RT, OO, OA, OB, OC, BS, BL, HC, SC, ho_K H, ho_X H, ho_Y H, ho_Z H, ho_I H, ho_R H, ho_G H, ho_S H, ZR, sn_K Z, sn_X Z, sn_Y Z, sn_Z Z, TM, PA, PV, HO, CO, CV, NZ, NE, KB, KO, KT) (nI s) := by
  obtain ⟨h1, h2, h3, h4, h5, h6, h7⟩ := hO
  obtain ⟨V, v1, v2, r⟩ := (h6 PG RT RG FB CE hp).1 nf
  have w := xw_rb2 (post := post) (s := s) (PG := PG) (FB := FB) (CT := nI st) (SD := SD) (FA := FA) (CN := CN) (PN := PN) (SL := SL) (NT := NT) (CG := CG) (FK := FK) (FX := FX) (FY := FY) (FZ := FZ) (KC := KC) (RG := RG) (CE := CE) (RT := RT) (OO := OO) (OA := OA) (OB := OB) (OC := OC) (BS := BS) (BL := BL) (HC := HC) (SC := SC) (ZR := ZR) (TM := TM) (PA := PA) (PV := PV) (HO := HO) (CO := CO) (CV := CV) (NZ := NZ) (NE := NE) (KB := KB) (KO := KO) (KT := KT) (H := H) (Z := Z) ⟨m + 1, xw_run49 (Re := RG) (Fe := FB) hp hs hm h1 h3 h4 h5 (fun c0 => absurd rfl c0) (fun pn TM PA PV D Mem q1 q2 q3 q4 => xw_exit hs hm h1 hL hC.1 (by have := hC.2.2.2.1; omega) hSC ⟨h2, h3⟩ h5 hpr.2.1 hb q1 q2 q3 q4 (by rw [fl_seq hpr.2.1]; exact K TM PA PV)) (fun c0 => absurd rfl c0) m (16 * s) 0 (upd (fl_u TM RG 8) 8 FB) PA PV (fun t => t < 9) CE rfl (Nat.le_refl _) (by omega) pn_I0 (D0_tm v1 v2) r⟩ 8 0 rfl
  rw [fl_0] at w
  exact ⟨9, w⟩
/-- a block that faults -/
theorem xw_rb_bad {post : Int32 → SX → Prop} {s m n sc st lg cn e : Nat} {code : Int32} (hp : gu_pg PG) (hpr : pr_ok OO OA OB) (hs : s < 4) (hL : BL s = nI n) (hm : HC s = nI m) (hSC : SC s = nI sc) (hC : bk_C n lg st cn OO) (hO : bk_Ok OO OA OB OC st n s m sc H Z ZR) (he : e < n) (hc : code ≠ 0) (nf : ∀ i, i < e → gq_f PG RT OO OA OB OC st (RG, FB, CE) i = 0) (hf : gq_f PG RT OO OA OB OC st (RG, FB, CE) e = code)
    (K : ∀ TM PA PV : Nat → Int32, post code (PG, (gu_seq OO OA OB OC st (RG, FB, CE) e).2.1, nI st + nI e, SD + nI e, if code = 6 then FA else gq_a OO OA OB OC st (RG, FB, CE) e, CN, 0, SL, NT, CG, FK, FX, FY, FZ, KC, (gu_seq OO OA OB OC st (RG, FB, CE) e).1, (gu_seq OO OA OB OC st (RG, FB, CE) e).2.2, RT, OO, OA, OB, OC, BS, BL, HC, SC, ho_K H, ho_X H, ho_Y H, ho_Z H, ho_I H, ho_R H, ho_G H, ho_S H, ZR, sn_K Z, sn_X Z, sn_Y Z, sn_Z Z, TM, PA, PV, HO, CO, CV, NZ, NE, KB, KO, KT)) : wpX_runBlock post (PG, FB, nI st, SD, FA, CN, PN, SL, NT, CG, FK, FX, FY, FZ, KC, RG, CE, RT, OO, OA, OB, OC, BS, BL, HC, SC, ho_K H, ho_X H, ho_Y H, ho_Z H, ho_I H, ho_R H, ho_G H, ho_S H, ZR, sn_K Z, sn_X Z, sn_Y Z, sn_Z Z, TM, PA, PV, HO, CO, CV, NZ, NE, KB, KO, KT) (nI s) := by
  obtain ⟨h1, h2, h3, h4, h5, h6, h7⟩ := hO
  obtain ⟨V, v1, v2, r⟩ := (h6 PG RT RG FB CE hp).2 e code he hc nf hf
  have w := xw_rb2 (post := post) (s := s) (PG := PG) (FB := FB) (CT := nI st) (SD := SD) (FA := FA) (CN := CN) (PN := PN) (SL := SL) (NT := NT) (CG := CG) (FK := FK) (FX := FX) (FY := FY) (FZ := FZ) (KC := KC) (RG := RG) (CE := CE) (RT := RT) (OO := OO) (OA := OA) (OB := OB) (OC := OC) (BS := BS) (BL := BL) (HC := HC) (SC := SC) (ZR := ZR) (TM := TM) (PA := PA) (PV := PV) (HO := HO) (CO := CO) (CV := CV) (NZ := NZ) (NE := NE) (KB := KB) (KO := KO) (KT := KT) (H := H) (Z := Z) ⟨m + 1, xw_run49 (Q := fun _ _ => False) hp hs hm h1 h3 h4 h5 (fun _ _ _ z => z) (fun pn TM PA PV D Mem q1 q2 q3 q4 => q4.elim) (fun _ TM PA PV => by rw [fl_seq hpr.2.1]; exact K TM PA PV) m (16 * s) 0 (upd (fl_u TM RG 8) 8 FB) PA PV (fun t => t < 9) CE rfl (Nat.le_refl _) (by omega) pn_I0 (D0_tm v1 v2) r⟩ 8 0 rfl
  rw [fl_0] at w
  exact ⟨9, w⟩
end
end
section
section
/-! the reference's steps along a block -/
theorem gu_flg_bt (k x y z : Int32) : ∃ q n w v : Int32, gu_bt q n w v (gu_flg k x y z) := by
  unfold gu_flg gu_fb
  by_cases h2 : k = 2
  · rw [if_pos h2]; exact ⟨_, _, _, _, gu_df_bt _ _ _⟩
  rw [if_neg h2]
  by_cases h1 : k = 1
  · rw [if_pos h1]; exact ⟨_, _, _, _, gu_sf_bt _ _ _ _⟩
  rw [if_neg h1]
  by_cases h5 : k = 5
  · rw [if_pos h5]; exact ⟨_, _, _, _, gu_sf_bt _ _ _ _⟩
  rw [if_neg h5]
  exact ⟨_, _, _, _, gu_sg_bt _⟩
theorem gu_F_bt {o b c F : Int32} {R : Nat → Int32} (h : ∃ q n w v : Int32, gu_bt q n w v F) : ∃ q n w v : Int32, gu_bt q n w v (gu_F o b c R F) := by
  unfold gu_F
  by_cases h1 : o < 1
  · rw [if_pos h1]; exact h
  rw [if_neg h1]
  by_cases h5 : 5 < o
  · rw [if_pos h5]; exact h
  rw [if_neg h5]
  exact gu_flg_bt _ _ _ _
theorem gu_seq_bt {O A B C : Nat → Int32} {st : Nat} {g : gu_G} (h : ∃ q n w v : Int32, gu_bt q n w v g.2.1) : ∀ k : Nat, ∃ q n w v : Int32, gu_bt q n w v (gu_seq O A B C st g k).2.1
  | 0 => h
  | k + 1 => gu_F_bt (gu_seq_bt h k)
theorem gu_bt_u {z n c v z' n' c' v' F : Int32} (h : gu_bt z n c v F) (h' : gu_bt z' n' c' v' F) : z' = z ∧ n' = n ∧ c' = c ∧ v' = v := by
  have a1 := (gu_bt_1 h').symm.trans (gu_bt_1 h)
  have a2 := (gu_bt_2 h').symm.trans (gu_bt_2 h)
  have a4 := (gu_bt_4 h').symm.trans (gu_bt_4 h)
  have a8 := (gu_bt_8 h').symm.trans (gu_bt_8 h)
  obtain ⟨_, hn, hc, hv, _⟩ := h
  obtain ⟨_, hn', hc', hv', _⟩ := h'
  refine ⟨a1, ?_, ?_, ?_⟩
  · rcases hn with rfl | rfl <;> rcases hn' with rfl | rfl
    · rfl
    · exact absurd a2 (by decide)
    · exact absurd a2 (by decide)
    · rfl
  · rcases hc with rfl | rfl <;> rcases hc' with rfl | rfl
    · rfl
    · exact absurd a4 (by decide)
    · exact absurd a4 (by decide)
    · rfl
  · rcases hv with rfl | rfl <;> rcases hv' with rfl | rfl
    · rfl
    · exact absurd a8 (by decide)
    · exact absurd a8 (by decide)
    · rfl
theorem gu_flt_c {pg o b c code : Int32} {rt R : Nat → Int32} (hc : code ≠ 0) (h : gu_flt pg rt o b c R = code) : code = 3 ∨ code = 4 ∨ code = 5 ∨ code = 6 := by
  unfold gu_flt at h
  by_cases h7 : o = 7
  · rw [if_pos h7] at h
    by_cases z : R (c &&& 7).toNatClampNeg = 0
    · rw [if_pos z] at h; exact Or.inr (Or.inr (Or.inr h.symm))
    · rw [if_neg z] at h; exact absurd h.symm hc
  rw [if_neg h7] at h
  by_cases h9 : o = 9
  · rw [if_pos h9] at h
    unfold gu_ld at h
    by_cases a : R b.toNatClampNeg + c < 0
    · rw [if_pos a] at h; exact Or.inl h.symm
    rw [if_neg a] at h
    by_cases d : 8 * pg ≤ R b.toNatClampNeg + c
    · rw [if_pos d] at h; exact Or.inl h.symm
    rw [if_neg d] at h
    by_cases f : rt ((R b.toNatClampNeg + c) >>> ((3 : Int32) &&& 31)).toNatClampNeg = 0
    · rw [if_pos f] at h; exact Or.inr (Or.inl h.symm)
    · rw [if_neg f] at h; exact absurd h.symm hc
  rw [if_neg h9] at h
  by_cases h10 : o = 10
  · rw [if_pos h10] at h
    unfold gu_sv at h
    by_cases a : R b.toNatClampNeg + c < 0
    · rw [if_pos a] at h; exact Or.inl h.symm
    rw [if_neg a] at h
    by_cases d : 8 * pg ≤ R b.toNatClampNeg + c
    · rw [if_pos d] at h; exact Or.inl h.symm
    rw [if_neg d] at h
    by_cases f : 2 ≤ rt ((R b.toNatClampNeg + c) >>> ((3 : Int32) &&& 31)).toNatClampNeg
    · rw [if_pos f] at h; exact absurd h.symm hc
    · rw [if_neg f] at h; exact Or.inr (Or.inr (Or.inl h.symm))
  rw [if_neg h10] at h
  exact absurd h.symm hc
variable {PG CN QZ QN QC QV CT SD FA : Int32} {RT OO JA JB OC RG CE : Nat → Int32}
variable {lim f i p on cn st : Nat} {F : Int32} {post : Int32 → SY → Prop}
/-- one step that does not fault -/
theorem yw_step (hp : gu_pg PG) (hi : i < lim) (hlim : lim ≤ 1000) (hpc : p < cn) (hcn : cn ≤ 40) (hon : on ≤ 11) (eo : OO p = nI on) (hf : gu_flt PG RT (OO p) (JB p &&& 7) (OC p) RG = 0) (hb : gu_bt QZ QN QC QV F)
    (h : ∀ z n c v : Int32, gu_bt z n c v (gu_F (OO p) (JB p &&& 7) (OC p) RG F) → wY_run_35 post (nI lim) f (nI (i + 1)) PG (nI cn) z n c v (gu_pc (OO p) (gu_hold z n c v (JA p &&& 7)) (OC p) (nI p)) (SD + 1) FA RT OO JA JB OC (gu_R (OO p) (JA p &&& 7) (JB p &&& 7) (OC p) RG F CE) (gu_M (OO p) (JA p &&& 7) (JB p &&& 7) (OC p) RG CE)) : wY_run_35 post (nI lim) (f + 1) (nI i) PG (nI cn) QZ QN QC QV (nI p) SD FA RT OO JA JB OC RG CE := by
  have cp : (nI p).toNatClampNeg = p := nI_clamp (by omega)
  have i40 : vp_in (nI p) 40 := vp_in_nI (by omega) (by omega)
  have h12 : ¬ OO p = 12 := by
    rw [eo]
    intro z
    have := (nI_eq (a := on) (b := 12) (by omega) (by omega)).mp z
    omega
  refine br_f (nI_ge (by omega) (by omega)) (yw_obst hp i40 (nI_pos (by omega)) (nI_lt (by omega) (by omega)) (by rw [cp]; exact h12) (br_t (by rw [cp]; exact hf) ?_))
  refine yw_carry (on := on) (F := F) hp i40 hon (by rw [cp]; exact eo) (by rw [cp]; exact hf) hb (fun z n c v hq => ?_)
  rw [cp] at hq ⊢
  exact nm_e (nm_r (nI_1 i) (h z n c v hq))
/-- the step that faults -/
theorem yw_bad {code : Int32} (hp : gu_pg PG) (hi : i < lim) (hlim : lim ≤ 1000) (hpc : p < cn) (hcn : cn ≤ 40) (h12 : ¬ OO p = 12) (hc : code ≠ 0) (hf : gu_flt PG RT (OO p) (JB p &&& 7) (OC p) RG = code) (h : post code (PG, nI cn, QZ, QN, QC, QV, nI p, SD, if code = 6 then FA else RG (JB p &&& 7).toNatClampNeg + OC p, RT, OO, JA, JB, OC, RG, CE)) : wY_run_35 post (nI lim) (f + 1) (nI i) PG (nI cn) QZ QN QC QV (nI p) SD FA RT OO JA JB OC RG CE := by
  have cp : (nI p).toNatClampNeg = p := nI_clamp (by omega)
  have i40 : vp_in (nI p) 40 := vp_in_nI (by omega) (by omega)
  have w69 : ¬ code = 6 → wY_run_69 post code PG (nI cn) QZ QN QC QV (nI p) SD FA RT OO JA JB OC RG CE := by
    intro n6
    rw [if_neg n6] at h
    have e : RG (JB (nI p).toNatClampNeg &&& 7).toNatClampNeg + OC (nI p).toNatClampNeg = RG (JB p &&& 7).toNatClampNeg + OC p := by rw [cp]
    exact And.intro i40 (And.intro (gu_a7 _) (And.intro i40 (nm_r e h)))
  refine br_f (nI_ge (by omega) (by omega)) (yw_obst hp i40 (nI_pos (by omega)) (nI_lt (by omega) (by omega)) (by rw [cp]; exact h12) ?_)
  rw [cp, hf]
  refine br_f hc ?_
  rcases gu_flt_c hc hf with e | e | e | e
  · exact br_t e (w69 (by rw [e]; decide))
  · exact br_f (by rw [e]; decide) (br_t e (w69 (by rw [e]; decide)))
  · exact br_f (by rw [e]; decide) (br_f (by rw [e]; decide) (br_t e (w69 (by rw [e]; decide))))
  · rw [if_pos e] at h
    exact br_f (by rw [e]; decide) (br_f (by rw [e]; decide) (br_f (by rw [e]; decide) h))
theorem sd_s (x : Int32) (k : Nat) : x + nI k + 1 = x + nI (k + 1) := by
  rw [Int32.add_assoc, nI_1]
/-- k steps straight on -/
theorem yw_line {k : Nat} (hp : gu_pg PG) (hik : i + k ≤ lim) (hlim : lim ≤ 1000) (hpc : st + k ≤ cn) (hcn : cn ≤ 40) (hop : ∀ j, ∃ on : Nat, on ≤ 12 ∧ OO j = nI on) (h12 : ∀ j, j < k → ¬ OO (st + j) = 12) (h11 : ∀ j, j < k → ¬ OO (st + j) = 11) (nf : ∀ j, j < k → gq_f PG RT OO (fun j => JA j &&& 7) (fun j => JB j &&& 7) OC st (RG, F, CE) j = 0)
    (h : ∀ z n c v : Int32, gu_bt z n c v (gu_seq OO (fun j => JA j &&& 7) (fun j => JB j &&& 7) OC st (RG, F, CE) k).2.1 → wY_run_35 post (nI lim) f (nI (i + k)) PG (nI cn) z n c v (nI (st + k)) (SD + nI k) FA RT OO JA JB OC ((gu_seq OO (fun j => JA j &&& 7) (fun j => JB j &&& 7) OC st (RG, F, CE) k).1) ((gu_seq OO (fun j => JA j &&& 7) (fun j => JB j &&& 7) OC st (RG, F, CE) k).2.2)) :
    ∀ d j : Nat, j + d = k → ∀ z n c v : Int32, gu_bt z n c v (gu_seq OO (fun j => JA j &&& 7) (fun j => JB j &&& 7) OC st (RG, F, CE) j).2.1 → wY_run_35 post (nI lim) (f + d) (nI (i + j)) PG (nI cn) z n c v (nI (st + j)) (SD + nI j) FA RT OO JA JB OC ((gu_seq OO (fun j => JA j &&& 7) (fun j => JB j &&& 7) OC st (RG, F, CE) j).1) ((gu_seq OO (fun j => JA j &&& 7) (fun j => JB j &&& 7) OC st (RG, F, CE) j).2.2) := by
  intro d
  induction d with
  | zero =>
    intro j hj z n c v hb
    have e : j = k := by omega
    subst e
    exact h z n c v hb
  | succ d ih =>
    intro j hj z n c v hb
    obtain ⟨on, o1, o2⟩ := hop (st + j)
    have n12 : on ≠ 12 := fun e => h12 j (by omega) (by rw [o2, e]; rfl)
    refine yw_step (f := f + d) hp (by omega) hlim (by omega) hcn (by omega) o2 (nf j (by omega)) hb (fun z n c v hq => ?_)
    have w := ih (j + 1) (by omega) z n c v hq
    have e1 : gu_pc (OO (st + j)) (gu_hold z n c v (JA (st + j) &&& 7)) (OC (st + j)) (nI (st + j)) = nI (st + (j + 1)) := by
      unfold gu_pc
      rw [if_neg (h11 j (by omega)), nI_1]
      rfl
    rw [e1, sd_s]
    exact w
/-- a block to its end -/
theorem yw_block {n lg : Nat} (hp : gu_pg PG) (hik : i + n ≤ lim) (hlim : lim ≤ 1000) (hC : bk_C n lg st cn OO) (hcn : cn ≤ 40) (hop : ∀ j, ∃ on : Nat, on ≤ 12 ∧ OO j = nI on) (nf : ∀ j, j < n → gq_f PG RT OO (fun j => JA j &&& 7) (fun j => JB j &&& 7) OC st (RG, F, CE) j = 0) (hb : gu_bt QZ QN QC QV F)
    (h : ∀ z nn c v : Int32, gu_bt z nn c v (gu_seq OO (fun j => JA j &&& 7) (fun j => JB j &&& 7) OC st (RG, F, CE) n).2.1 → wY_run_35 post (nI lim) f (nI (i + n)) PG (nI cn) z nn c v (gu_pc (OO (st + n - 1)) (gu_hold z nn c v (JA (st + n - 1) &&& 7)) (OC (st + n - 1)) (nI (st + n - 1))) (SD + nI n) FA RT OO JA JB OC ((gu_seq OO (fun j => JA j &&& 7) (fun j => JB j &&& 7) OC st (RG, F, CE) n).1) ((gu_seq OO (fun j => JA j &&& 7) (fun j => JB j &&& 7) OC st (RG, F, CE) n).2.2)) :
    wY_run_35 post (nI lim) (f + n) (nI i) PG (nI cn) QZ QN QC QV (nI st) SD FA RT OO JA JB OC RG CE := by
  obtain ⟨c1, c2, c3, c4, c5, c6⟩ := hC
  obtain ⟨k, rfl⟩ : ∃ k, n = k + 1 := ⟨n - 1, by omega⟩
  rw [show f + (k + 1) = (f + 1) + k by omega]
  have es : st + (k + 1) - 1 = st + k := by omega
  rw [es] at h
  have w := yw_line (f := f + 1) (i := i) (k := k) (st := st) (F := F) (post := post) (PG := PG) (SD := SD) (FA := FA) (RT := RT) (OO := OO) (JA := JA) (JB := JB) (OC := OC) (RG := RG) (CE := CE) hp (by omega) hlim (by omega) hcn hop (fun j hj => c5 j (by omega)) (fun j hj => c6 j (by omega)) (fun j hj => nf j (by omega)) (fun z nn c v hb => ?_) k 0 (Nat.zero_add k) QZ QN QC QV hb
  · have e0 : SD + nI 0 = SD := Int32.add_zero SD
    rw [e0] at w
    exact w
  · obtain ⟨on, o1, o2⟩ := hop (st + k)
    have n12 : on ≠ 12 := fun e => c5 k (by omega) (by rw [o2, e]; rfl)
    refine yw_step hp (by omega) hlim (by omega) hcn (by omega) o2 (nf k (by omega)) hb (fun z nn c v hq => ?_)
    rw [sd_s]
    exact h z nn c v hq
/-- a block that faults at e -/
theorem yw_blkbad {n lg e : Nat} {code : Int32} (hp : gu_pg PG) (hik : i + n ≤ lim) (hlim : lim ≤ 1000) (hC : bk_C n lg st cn OO) (hcn : cn ≤ 40) (hop : ∀ j, ∃ on : Nat, on ≤ 12 ∧ OO j = nI on) (he : e < n) (hc : code ≠ 0) (nf : ∀ j, j < e → gq_f PG RT OO (fun j => JA j &&& 7) (fun j => JB j &&& 7) OC st (RG, F, CE) j = 0) (hf : gq_f PG RT OO (fun j => JA j &&& 7) (fun j => JB j &&& 7) OC st (RG, F, CE) e = code) (hb : gu_bt QZ QN QC QV F)
    (h : ∀ z nn c v : Int32, gu_bt z nn c v (gu_seq OO (fun j => JA j &&& 7) (fun j => JB j &&& 7) OC st (RG, F, CE) e).2.1 → post code (PG, nI cn, z, nn, c, v, nI (st + e), SD + nI e, if code = 6 then FA else gq_a OO (fun j => JA j &&& 7) (fun j => JB j &&& 7) OC st (RG, F, CE) e, RT, OO, JA, JB, OC, (gu_seq OO (fun j => JA j &&& 7) (fun j => JB j &&& 7) OC st (RG, F, CE) e).1, (gu_seq OO (fun j => JA j &&& 7) (fun j => JB j &&& 7) OC st (RG, F, CE) e).2.2)) :
    wY_run_35 post (nI lim) ((f + 1) + e) (nI i) PG (nI cn) QZ QN QC QV (nI st) SD FA RT OO JA JB OC RG CE := by
  obtain ⟨c1, c2, c3, c4, c5, c6⟩ := hC
  have w := yw_line (f := f + 1) (i := i) (k := e) (st := st) (F := F) (post := post) (PG := PG) (SD := SD) (FA := FA) (RT := RT) (OO := OO) (JA := JA) (JB := JB) (OC := OC) (RG := RG) (CE := CE) hp (by omega) hlim (by omega) hcn hop (fun j hj => c5 j (by omega)) (fun j hj => c6 j (by omega)) nf (fun z nn c v hb => ?_) e 0 (Nat.zero_add e) QZ QN QC QV hb
  · have e0 : SD + nI 0 = SD := Int32.add_zero SD
    rw [e0] at w
    exact w
  · exact yw_bad hp (by omega) hlim (by omega) hcn (c5 e he) hc hf (h z nn c v hb)
end
end
section
section
/-! the relation between the two states -/
def rl_ok (PG FB CN QZ QN QC QV : Int32) (OO JA JB OC BS BL HC SC : Nat → Int32) (H : Nat → ho_Op) (Z : Nat → ho_Sn) (ZR : Nat → Int32) : Prop := gu_pg PG ∧ (∀ j, ∃ on : Nat, on ≤ 12 ∧ OO j = nI on) ∧ gu_bt QZ QN QC QV FB ∧ ∃ cn : Nat, cn ≤ 40 ∧ CN = nI cn ∧ ∀ s, s < 3 → bk_In OO (fun j => JA j &&& 7) (fun j => JB j &&& 7) OC cn BS BL HC SC H Z ZR s
/-- pages, program, registers, cells, counter, steps and fault address are alike; the flags are the bits; the kept blocks do what the program does -/
def i_Rel (k : Nat) (u : SX) (v : SY) : Prop := ∃ (PG FB CT SD FA CN PN SL NT CG FK FX FY FZ KC QZ QN QC QV : Int32) (RG CE RT OO OC BS BL HC SC ZR TM PA PV HO CO CV NZ NE KB KO KT JA JB : Nat → Int32) (H : Nat → ho_Op) (Z : Nat → ho_Sn), u = (PG, FB, CT, SD, FA, CN, PN, SL, NT, CG, FK, FX, FY, FZ, KC, RG, CE, RT, OO, fun j => JA j &&& 7, fun j => JB j &&& 7, OC, BS, BL, HC, SC, ho_K H, ho_X H, ho_Y H, ho_Z H, ho_I H, ho_R H, ho_G H, ho_S H, ZR, sn_K Z, sn_X Z, sn_Y Z, sn_Z Z, TM, PA, PV, HO, CO, CV, NZ, NE, KB, KO, KT) ∧ v = (PG, CN, QZ, QN, QC, QV, CT, SD, FA, RT, OO, JA, JB, OC, RG, CE) ∧ rl_ok PG FB CN QZ QN QC QV OO JA JB OC BS BL HC SC H Z ZR
theorem i_up {k : Nat} {u : SX} {v : SY} (h : i_Rel k u v) : i_Rel (k + 5) u v := h
theorem rl_el {P : SX → SY → Prop} {k : Nat} {u : SX} {v : SY} (h : ∀ (PG FB CT SD FA CN PN SL NT CG FK FX FY FZ KC QZ QN QC QV : Int32) (RG CE RT OO OC BS BL HC SC ZR TM PA PV HO CO CV NZ NE KB KO KT JA JB : Nat → Int32) (H : Nat → ho_Op) (Z : Nat → ho_Sn), rl_ok PG FB CN QZ QN QC QV OO JA JB OC BS BL HC SC H Z ZR → P (PG, FB, CT, SD, FA, CN, PN, SL, NT, CG, FK, FX, FY, FZ, KC, RG, CE, RT, OO, fun j => JA j &&& 7, fun j => JB j &&& 7, OC, BS, BL, HC, SC, ho_K H, ho_X H, ho_Y H, ho_Z H, ho_I H, ho_R H, ho_G H, ho_S H, ZR, sn_K Z, sn_X Z, sn_Y Z, sn_Z Z, TM, PA, PV, HO, CO, CV, NZ, NE, KB, KO, KT) (PG, CN, QZ, QN, QC, QV, CT, SD, FA, RT, OO, JA, JB, OC, RG, CE)) (I : i_Rel k u v) : P u v :=
  Exists.elim I fun PG I => Exists.elim I fun FB I => Exists.elim I fun CT I => Exists.elim I fun SD I => Exists.elim I fun FA I => Exists.elim I fun CN I => Exists.elim I fun PN I => Exists.elim I fun SL I => Exists.elim I fun NT I => Exists.elim I fun CG I => Exists.elim I fun FK I => Exists.elim I fun FX I => Exists.elim I fun FY I => Exists.elim I fun FZ I => Exists.elim I fun KC I => Exists.elim I fun QZ I => Exists.elim I fun QN I => Exists.elim I fun QC I => Exists.elim I fun QV I => Exists.elim I fun RG I => Exists.elim I fun CE I => Exists.elim I fun RT I => Exists.elim I fun OO I => Exists.elim I fun OC I => Exists.elim I fun BS I => Exists.elim I fun BL I => Exists.elim I fun HC I => Exists.elim I fun SC I => Exists.elim I fun ZR I => Exists.elim I fun TM I => Exists.elim I fun PA I => Exists.elim I fun PV I => Exists.elim I fun HO I => Exists.elim I fun CO I => Exists.elim I fun CV I => Exists.elim I fun NZ I => Exists.elim I fun NE I => Exists.elim I fun KB I => Exists.elim I fun KO I => Exists.elim I fun KT I => Exists.elim I fun JA I => Exists.elim I fun JB I => Exists.elim I fun H I => Exists.elim I fun Z I => by obtain ⟨e1, e2, r⟩ := I; subst e1; subst e2; exact h PG FB CT SD FA CN PN SL NT CG FK FX FY FZ KC QZ QN QC QV RG CE RT OO OC BS BL HC SC ZR TM PA PV HO CO CV NZ NE KB KO KT JA JB H Z r
variable {PG FB CT SD FA CN PN SL NT CG FK FX FY FZ KC : Int32} {RG CE RT OO OA OB OC BS BL HC SC ZR TM PA PV HO CO CV NZ NE KB KO KT : Nat → Int32} {H : Nat → ho_Op} {Z : Nat → ho_Sn}
variable {QZ QN QC QV : Int32} {JA JB : Nat → Int32}
theorem rl_in {k : Nat} (h : rl_ok PG FB CN QZ QN QC QV OO JA JB OC BS BL HC SC H Z ZR) : i_Rel k (PG, FB, CT, SD, FA, CN, PN, SL, NT, CG, FK, FX, FY, FZ, KC, RG, CE, RT, OO, fun j => JA j &&& 7, fun j => JB j &&& 7, OC, BS, BL, HC, SC, ho_K H, ho_X H, ho_Y H, ho_Z H, ho_I H, ho_R H, ho_G H, ho_S H, ZR, sn_K Z, sn_X Z, sn_Y Z, sn_Z Z, TM, PA, PV, HO, CO, CV, NZ, NE, KB, KO, KT) (PG, CN, QZ, QN, QC, QV, CT, SD, FA, RT, OO, JA, JB, OC, RG, CE) := ⟨PG, FB, CT, SD, FA, CN, PN, SL, NT, CG, FK, FX, FY, FZ, KC, QZ, QN, QC, QV, RG, CE, RT, OO, OC, BS, BL, HC, SC, ZR, TM, PA, PV, HO, CO, CV, NZ, NE, KB, KO, KT, JA, JB, H, Z, rfl, rfl, h⟩
theorem rl_pr (hop : ∀ j, ∃ on : Nat, on ≤ 12 ∧ OO j = nI on) : pr_ok OO (fun j => JA j &&& 7) (fun j => JB j &&& 7) := ⟨hop, fun j => gu_a7 _, fun j => gu_a7 _⟩
theorem ls_ex {P : Nat → Prop} : ∀ n : Nat, (¬ ∀ i, i < n → P i) → ∃ e, e < n ∧ (∀ i, i < e → P i) ∧ ¬ P e
  | 0, h => absurd (fun i hi => absurd hi (Nat.not_lt_zero i)) h
  | n + 1, h => by
    by_cases c : ∀ i, i < n → P i
    · exact ⟨n, by omega, c, fun z => h (lt_s c z)⟩
    · obtain ⟨e, e1, e2⟩ := ls_ex n c
      exact ⟨e, by omega, e2⟩
theorem rn_stop {post : Int32 → SX → Prop} {x2 r x4 : Int32} {f : Nat} (hr : 0 ≤ r) (h : post r (PG, FB, CT, SD, FA, CN, PN, SL, NT, CG, FK, FX, FY, FZ, KC, RG, CE, RT, OO, OA, OB, OC, BS, BL, HC, SC, ho_K H, ho_X H, ho_Y H, ho_Z H, ho_I H, ho_R H, ho_G H, ho_S H, ZR, sn_K Z, sn_X Z, sn_Y Z, sn_Z Z, TM, PA, PV, HO, CO, CV, NZ, NE, KB, KO, KT)) : wX_run_38 post x2 (f + 1) r x4 PG FB CT SD FA CN PN SL NT CG FK FX FY FZ KC RG CE RT OO OA OB OC BS BL HC SC (ho_K H) (ho_X H) (ho_Y H) (ho_Z H) (ho_I H) (ho_R H) (ho_G H) (ho_S H) ZR (sn_K Z) (sn_X Z) (sn_Y Z) (sn_Z Z) TM PA PV HO CO CV NZ NE KB KO KT :=
  br_c (fun _ => h) (fun _ => br_t hr h)
theorem rn_loop {Y0 : (Int32 → SY → Prop) → Prop} {k lim cn : Nat} (hp : gu_pg PG) (hcn : cn ≤ 40) (hop : ∀ j, ∃ on : Nat, on ≤ 12 ∧ OO j = nI on) (hlim : lim ≤ 300) : ∀ (N d t f sd : Nat) (FB CT FA PN SL NT CG FK FX FY FZ KC QZ QN QC QV : Int32) (RG CE BS BL HC SC ZR TM PA PV HO CO CV NZ NE KB KO KT : Nat → Int32) (H : Nat → ho_Op) (Z : Nat → ho_Sn), d ≤ N → sd + d = lim → t ≤ sd → d + 2 ≤ f → gu_bt QZ QN QC QV FB → (∀ s, s < 3 → bk_In OO (fun j => JA j &&& 7) (fun j => JB j &&& 7) OC cn BS BL HC SC H Z ZR s) → (∀ q : Int32 → SY → Prop, wY_run_35 q (nI lim) (d + 1) (nI sd) PG (nI cn) QZ QN QC QV CT (nI sd) FA RT OO JA JB OC RG CE → Y0 q) → wX_run_38 (fun r u' => Y0 (fun r' v' => r' = r ∧ i_Rel (k + 5) u' v')) (nI lim) f (-1) (nI t) PG FB CT (nI sd) FA (nI cn) PN SL NT CG FK FX FY FZ KC RG CE RT OO (fun j => JA j &&& 7) (fun j => JB j &&& 7) OC BS BL HC SC (ho_K H) (ho_X H) (ho_Y H) (ho_Z H) (ho_I H) (ho_R H) (ho_G H) (ho_S H) ZR (sn_K Z) (sn_X Z) (sn_Y Z) (sn_Z Z) TM PA PV HO CO CV NZ NE KB KO KT := by
  intro N
  induction N with
  | zero =>
    intro d t f sd FB CT FA PN SL NT CG FK FX FY FZ KC QZ QN QC QV RG CE BS BL HC SC ZR TM PA PV HO CO CV NZ NE KB KO KT H Z hd hsd ht hf hb hB HY
    obtain ⟨f, rfl⟩ : ∃ f', f = f' + 2 := ⟨f - 2, by omega⟩
    refine br_f (nI_nlt (a := 300) (b := t) (by omega) (by omega)) (br_f (by decide) (br_f (nI_nlt (by omega) (by omega)) (nm_r (nI_1 t) (rn_stop (by decide) (HY _ (br_t (nI_le (by omega) (by omega)) ⟨rfl, rl_in ⟨hp, hop, hb, cn, hcn, rfl, hB⟩⟩))))))
  | succ N ih =>
    intro d t f sd FB CT FA PN SL NT CG FK FX FY FZ KC QZ QN QC QV RG CE BS BL HC SC ZR TM PA PV HO CO CV NZ NE KB KO KT H Z hd hsd ht hf hb hB HY
    obtain ⟨f, rfl⟩ : ∃ f', f = f' + 2 := ⟨f - 2, by omega⟩
    refine br_f (nI_nlt (a := 300) (b := t) (by omega) (by omega)) (br_f (by decide) ?_)
    by_cases d0 : d = 0
    · refine br_f (nI_nlt (by omega) (by omega)) (nm_r (nI_1 t) (rn_stop (by decide) (HY _ (br_t (nI_le (by omega) (by omega)) ⟨rfl, rl_in ⟨hp, hop, hb, cn, hcn, rfl, hB⟩⟩))))
    refine br_t (nI_lt (by omega) (by omega)) ?_
    have yl : ¬ nI lim ≤ nI sd := nI_ge (by omega) (by omega)
    refine br_c (fun c0 => nm_r (nI_1 t) (rn_stop (by decide) (HY _ ?_))) (fun c0 => br_c (fun c1 => ?_) (fun c1 => nm_r (nI_1 t) (rn_stop (by decide) (HY _ ?_))))
    · exact br_f yl (br_t c0 (br_f (by decide) (br_f (by decide) (br_f (by decide) (br_f (by decide) ⟨rfl, rl_in ⟨hp, hop, hb, cn, hcn, rfl, hB⟩⟩)))))
    · obtain ⟨st, hst, rfl⟩ := nI_of c0
      rw [nI_ltI hst (by omega)] at c1
      have cs : (nI st).toNatClampNeg = st := nI_clamp hst
      have i40 : vp_in (nI st) 40 := vp_in_nI (by omega) (by omega)
      refine And.intro i40 (br_c (fun a => nm_r (nI_1 t) (rn_stop (by decide) (HY _ ?_))) (fun a => ?_))
      · exact br_f yl (br_f c0 (br_t (nI_lt c1 (by omega)) (And.intro i40 (nm_e (br_t a (br_f (by decide) (br_f (by decide) (br_f (by decide) (br_f (by decide) ⟨rfl, rl_in ⟨hp, hop, hb, cn, hcn, rfl, hB⟩⟩)))))))))
      · rw [cs] at a
        have er : nI lim - nI sd = nI d := by rw [pk_sub (by omega)]; exact congrArg nI (by omega)
        rw [er]
        refine tr_blockFor (rl_pr hop) c1 hcn (by omega) (by omega) a hB (fun s n m sc SL NT CG FK FX FY FZ KC BS BL HC SC H Z ZR HO CO CV NZ NE KB KO KT s4 hB' hL hm hsc hC hO => ?_)
        have hn := hC.2.2.1
        have hn1 := hC.1
        by_cases nf : ∀ i, i < n → gq_f PG RT OO (fun j => JA j &&& 7) (fun j => JB j &&& 7) OC st (RG, FB, CE) i = 0
        · obtain ⟨z, nn, c, v, hb'⟩ := gu_seq_bt (O := OO) (A := fun j => JA j &&& 7) (B := fun j => JB j &&& 7) (C := OC) (st := st) (g := (RG, FB, CE)) ⟨_, _, _, _, hb⟩ n
          refine xw_rb_ok hp (rl_pr hop) s4 hcn hL hm hsc hC hO nf hb' (fun TM PA PV => nm_r (nI_1 t) ?_)
          rw [nI_add sd n]
          refine ih (d - n) (t + 1) (f + 1) (sd + n) _ _ _ _ _ _ _ _ _ _ _ _ z nn c v _ _ _ _ _ _ _ _ _ _ _ _ _ _ _ _ _ _ _ _ (by omega) (by omega) (by omega) (by omega) hb' hB' (fun q w => HY q ?_)
          rw [show d + 1 = (d - n + 1) + n by omega]
          refine yw_block (lg := d) hp (by omega) (by omega) hC hcn hop nf hb (fun z' nn' c' v' hq => ?_)
          obtain ⟨u1, u2, u3, u4⟩ := gu_bt_u hb' hq
          subst u1 u2 u3 u4
          rw [nI_add sd n]
          exact w
        · obtain ⟨e, e1, e2, e3⟩ := ls_ex n nf
          have hpos : 0 ≤ gq_f PG RT OO (fun j => JA j &&& 7) (fun j => JB j &&& 7) OC st (RG, FB, CE) e := by
            rcases gu_flt_c e3 rfl with q | q | q | q
            · exact Eq.mpr (congrArg (fun x => (0 : Int32) ≤ x) q) (by decide)
            · exact Eq.mpr (congrArg (fun x => (0 : Int32) ≤ x) q) (by decide)
            · exact Eq.mpr (congrArg (fun x => (0 : Int32) ≤ x) q) (by decide)
            · exact Eq.mpr (congrArg (fun x => (0 : Int32) ≤ x) q) (by decide)
          refine xw_rb_bad hp (rl_pr hop) s4 hL hm hsc hC hO e1 e3 e2 rfl (fun TM PA PV => nm_r (nI_1 t) (rn_stop hpos (HY _ ?_)))
          rw [show d + 1 = ((d - e) + 1) + e by omega]
          refine yw_blkbad (lg := d) hp (by omega) (by omega) hC hcn hop e1 e3 e2 rfl hb (fun z' nn' c' v' hq => ⟨rfl, ?_⟩)
          rw [nI_add st e]
          exact rl_in ⟨hp, hop, hq, cn, hcn, rfl, hB'⟩
    · exact br_f yl (br_f c0 (br_f c1 (br_f (by decide) (br_f (by decide) (br_f (by decide) (br_f (by decide) ⟨rfl, rl_in ⟨hp, hop, hb, cn, hcn, rfl, hB⟩⟩))))))
end
end
section
section
/-! the calls, one by one -/
variable {PG FB CT SD FA CN PN SL NT CG FK FX FY FZ KC : Int32} {RG CE RT OO OA OB OC BS BL HC SC ZR TM PA PV HO CO CV NZ NE KB KO KT : Nat → Int32} {H : Nat → ho_Op} {Z : Nat → ho_Sn}
variable {QZ QN QC QV : Int32} {JA JB : Nat → Int32}
theorem mk_up {f : Nat → Int32} {i : Nat} {x : Int32} : upd (fun j => f j &&& 7) i (x &&& 7) = fun j => upd f i x j &&& 7 := by
  funext j
  unfold upd
  by_cases e : j = i
  · rw [if_pos e, if_pos e]
  · rw [if_neg e, if_neg e]
theorem xw_forget {post : SX → Prop} (h : post (PG, FB, CT, SD, FA, CN, PN, SL, NT, CG, FK, FX, FY, FZ, KC, RG, CE, RT, OO, OA, OB, OC, BS, fl_u BL (fun _ => 0) 4, HC, SC, ho_K H, ho_X H, ho_Y H, ho_Z H, ho_I H, ho_R H, ho_G H, ho_S H, ZR, sn_K Z, sn_X Z, sn_Y Z, sn_Z Z, TM, PA, PV, HO, CO, CV, NZ, NE, KB, KO, KT)) : wpX_forgetBlocks post (PG, FB, CT, SD, FA, CN, PN, SL, NT, CG, FK, FX, FY, FZ, KC, RG, CE, RT, OO, OA, OB, OC, BS, BL, HC, SC, ho_K H, ho_X H, ho_Y H, ho_Z H, ho_I H, ho_R H, ho_G H, ho_S H, ZR, sn_K Z, sn_X Z, sn_Y Z, sn_Z Z, TM, PA, PV, HO, CO, CV, NZ, NE, KB, KO, KT) := by
  have w : ∀ d i : Nat, i + d = 4 → wX_forgetBlocks_2 post PG FB CT SD FA CN PN SL NT CG FK FX FY FZ KC (d + 1) (nI i) RG CE RT OO OA OB OC BS (fl_u BL (fun _ => 0) i) HC SC (ho_K H) (ho_X H) (ho_Y H) (ho_Z H) (ho_I H) (ho_R H) (ho_G H) (ho_S H) ZR (sn_K Z) (sn_X Z) (sn_Y Z) (sn_Z Z) TM PA PV HO CO CV NZ NE KB KO KT := by
    intro d
    induction d with
    | zero =>
      intro i hi
      have e : i = 4 := by omega
      subst e
      exact br_t (nI_le (a := 4) (b := 4) (by omega) (by omega)) h
    | succ d ih =>
      intro i hi
      have ci : (nI i).toNatClampNeg = i := nI_clamp (by omega)
      have e1 : upd (fl_u BL (fun _ => 0) i) (nI i).toNatClampNeg 0 = fl_u BL (fun _ => 0) (i + 1) := by rw [ci]; exact fl_s (v := fun _ => 0)
      exact br_f (nI_ge (a := i) (b := 4) (by omega) (by omega)) (And.intro (vp_in_nI (by omega) (by omega)) (nm_r e1 (nm_r (nI_1 i) (ih (i + 1) (by omega)))))
  have w0 := w 4 0 rfl
  rw [fl_0] at w0
  exact ⟨5, w0⟩
theorem bk_none {O A B C BS BL HC SC ZR : Nat → Int32} {H : Nat → ho_Op} {Z : Nat → ho_Sn} {cn : Nat} : ∀ s, s < 3 → bk_In O A B C cn BS (fl_u BL (fun _ => 0) 4) HC SC H Z ZR s := fun s hs => Or.inl (fl_at (by omega))
theorem xw_reset {post : SX → Prop} (h : post (PG, 0, 0, 0, 0, CN, PN, SL, NT, CG, FK, FX, FY, FZ, KC, fl_u RG (fun _ => 0) 8, fl_u CE (fun _ => 0) 32, RT, OO, OA, OB, OC, BS, BL, HC, SC, ho_K H, ho_X H, ho_Y H, ho_Z H, ho_I H, ho_R H, ho_G H, ho_S H, ZR, sn_K Z, sn_X Z, sn_Y Z, sn_Z Z, TM, PA, PV, HO, CO, CV, NZ, NE, KB, KO, KT)) : wpX_reset post (PG, FB, CT, SD, FA, CN, PN, SL, NT, CG, FK, FX, FY, FZ, KC, RG, CE, RT, OO, OA, OB, OC, BS, BL, HC, SC, ho_K H, ho_X H, ho_Y H, ho_Z H, ho_I H, ho_R H, ho_G H, ho_S H, ZR, sn_K Z, sn_X Z, sn_Y Z, sn_Z Z, TM, PA, PV, HO, CO, CV, NZ, NE, KB, KO, KT) := by
  have w2 : ∀ d i : Nat, i + d = 32 → wX_reset_23 post PG FB CT SD FA CN PN SL NT CG FK FX FY FZ KC (d + 1) (nI i) (fl_u RG (fun _ => 0) 8) (fl_u CE (fun _ => 0) i) RT OO OA OB OC BS BL HC SC (ho_K H) (ho_X H) (ho_Y H) (ho_Z H) (ho_I H) (ho_R H) (ho_G H) (ho_S H) ZR (sn_K Z) (sn_X Z) (sn_Y Z) (sn_Z Z) TM PA PV HO CO CV NZ NE KB KO KT := by
    intro d
    induction d with
    | zero =>
      intro i hi
      have e : i = 32 := by omega
      subst e
      exact br_t (nI_le (a := 32) (b := 32) (by omega) (by omega)) h
    | succ d ih =>
      intro i hi
      have ci : (nI i).toNatClampNeg = i := nI_clamp (by omega)
      have e1 : upd (fl_u CE (fun _ => 0) i) (nI i).toNatClampNeg 0 = fl_u CE (fun _ => 0) (i + 1) := by rw [ci]; exact fl_s (v := fun _ => 0)
      exact br_f (nI_ge (a := i) (b := 32) (by omega) (by omega)) (And.intro (vp_in_nI (by omega) (by omega)) (nm_r e1 (nm_r (nI_1 i) (ih (i + 1) (by omega)))))
  have w1 : ∀ d i : Nat, i + d = 8 → wX_reset_2 post PG FB CT SD FA CN PN SL NT CG FK FX FY FZ KC (d + 1) (nI i) (fl_u RG (fun _ => 0) i) CE RT OO OA OB OC BS BL HC SC (ho_K H) (ho_X H) (ho_Y H) (ho_Z H) (ho_I H) (ho_R H) (ho_G H) (ho_S H) ZR (sn_K Z) (sn_X Z) (sn_Y Z) (sn_Z Z) TM PA PV HO CO CV NZ NE KB KO KT := by
    intro d
    induction d with
    | zero =>
      intro i hi
      have e : i = 8 := by omega
      subst e
      have w0 := w2 32 0 rfl
      rw [fl_0 (f := CE)] at w0
      exact br_t (nI_le (a := 8) (b := 8) (by omega) (by omega)) ⟨33, w0⟩
    | succ d ih =>
      intro i hi
      have ci : (nI i).toNatClampNeg = i := nI_clamp (by omega)
      have e1 : upd (fl_u RG (fun _ => 0) i) (nI i).toNatClampNeg 0 = fl_u RG (fun _ => 0) (i + 1) := by rw [ci]; exact fl_s (v := fun _ => 0)
      exact br_f (nI_ge (a := i) (b := 8) (by omega) (by omega)) (And.intro (vp_in_nI (by omega) (by omega)) (nm_r e1 (nm_r (nI_1 i) (ih (i + 1) (by omega)))))
  have w0 := w1 8 0 rfl
  rw [fl_0] at w0
  exact ⟨9, w0⟩
theorem yw_reset {post : SY → Prop} (h : post (PG, CN, 0 &&& 1, (0 >>> ((1 : Int32) &&& 31)) &&& 1, (0 >>> ((2 : Int32) &&& 31)) &&& 1, (0 >>> ((3 : Int32) &&& 31)) &&& 1, 0, 0, 0, RT, OO, JA, JB, OC, fl_u RG (fun _ => 0) 8, fl_u CE (fun _ => 0) 32)) : wpY_reset post (PG, CN, QZ, QN, QC, QV, CT, SD, FA, RT, OO, JA, JB, OC, RG, CE) := by
  have w2 : ∀ d i : Nat, i + d = 32 → wY_reset_23 post PG CN QZ QN QC QV CT SD FA (d + 1) (nI i) RT OO JA JB OC (fl_u RG (fun _ => 0) 8) (fl_u CE (fun _ => 0) i) := by
    intro d
    induction d with
    | zero =>
      intro i hi
      have e : i = 32 := by omega
      subst e
      exact br_t (nI_le (a := 32) (b := 32) (by omega) (by omega)) (nm_e (nm_e (nm_e (nm_e h))))
    | succ d ih =>
      intro i hi
      have ci : (nI i).toNatClampNeg = i := nI_clamp (by omega)
      have e1 : upd (fl_u CE (fun _ => 0) i) (nI i).toNatClampNeg 0 = fl_u CE (fun _ => 0) (i + 1) := by rw [ci]; exact fl_s (v := fun _ => 0)
      exact br_f (nI_ge (a := i) (b := 32) (by omega) (by omega)) (And.intro (vp_in_nI (by omega) (by omega)) (nm_r e1 (nm_r (nI_1 i) (ih (i + 1) (by omega)))))
  have w1 : ∀ d i : Nat, i + d = 8 → wY_reset_2 post PG CN QZ QN QC QV CT SD FA (d + 1) (nI i) RT OO JA JB OC (fl_u RG (fun _ => 0) i) CE := by
    intro d
    induction d with
    | zero =>
      intro i hi
      have e : i = 8 := by omega
      subst e
      have w0 := w2 32 0 rfl
      rw [fl_0 (f := CE)] at w0
      exact br_t (nI_le (a := 8) (b := 8) (by omega) (by omega)) ⟨33, w0⟩
    | succ d ih =>
      intro i hi
      have ci : (nI i).toNatClampNeg = i := nI_clamp (by omega)
      have e1 : upd (fl_u RG (fun _ => 0) i) (nI i).toNatClampNeg 0 = fl_u RG (fun _ => 0) (i + 1) := by rw [ci]; exact fl_s (v := fun _ => 0)
      exact br_f (nI_ge (a := i) (b := 8) (by omega) (by omega)) (And.intro (vp_in_nI (by omega) (by omega)) (nm_r e1 (nm_r (nI_1 i) (ih (i + 1) (by omega)))))
  have w0 := w1 8 0 rfl
  rw [fl_0] at w0
  exact ⟨9, w0⟩
theorem xw_i325 {post : SX → Prop} {r : Int32} (h : post (PG, FB, CT, SD, FA, CN, PN, SL, NT, CG, FK, FX, FY, FZ, KC, RG, CE, fl_u RT (fun _ => r) 4, OO, OA, OB, OC, BS, BL, HC, SC, ho_K H, ho_X H, ho_Y H, ho_Z H, ho_I H, ho_R H, ho_G H, ho_S H, ZR, sn_K Z, sn_X Z, sn_Y Z, sn_Z Z, TM, PA, PV, HO, CO, CV, NZ, NE, KB, KO, KT)) : ∃ n : Nat, wX_init_325 post r PG FB CT SD FA CN PN SL NT CG FK FX FY FZ KC n 0 RG CE RT OO OA OB OC BS BL HC SC (ho_K H) (ho_X H) (ho_Y H) (ho_Z H) (ho_I H) (ho_R H) (ho_G H) (ho_S H) ZR (sn_K Z) (sn_X Z) (sn_Y Z) (sn_Z Z) TM PA PV HO CO CV NZ NE KB KO KT := by
  have w : ∀ d i : Nat, i + d = 4 → wX_init_325 post r PG FB CT SD FA CN PN SL NT CG FK FX FY FZ KC (d + 1) (nI i) RG CE (fl_u RT (fun _ => r) i) OO OA OB OC BS BL HC SC (ho_K H) (ho_X H) (ho_Y H) (ho_Z H) (ho_I H) (ho_R H) (ho_G H) (ho_S H) ZR (sn_K Z) (sn_X Z) (sn_Y Z) (sn_Z Z) TM PA PV HO CO CV NZ NE KB KO KT := by
    intro d
    induction d with
    | zero =>
      intro i hi
      have e : i = 4 := by omega
      subst e
      exact br_t (nI_le (a := 4) (b := 4) (by omega) (by omega)) h
    | succ d ih =>
      intro i hi
      have ci : (nI i).toNatClampNeg = i := nI_clamp (by omega)
      have e1 : upd (fl_u RT (fun _ => r) i) (nI i).toNatClampNeg r = fl_u RT (fun _ => r) (i + 1) := by rw [ci]; exact fl_s (v := fun _ => r)
      exact br_f (nI_ge (a := i) (b := 4) (by omega) (by omega)) (And.intro (vp_in_nI (by omega) (by omega)) (nm_r e1 (nm_r (nI_1 i) (ih (i + 1) (by omega)))))
  have w0 := w 4 0 rfl
  rw [fl_0] at w0
  exact ⟨5, w0⟩
theorem yw_i84 {post : SY → Prop} {x r : Int32} (hr : (0 ≤ x ∧ x ≤ 2 ∧ r = x) ∨ (0 ≤ x ∧ ¬ x ≤ 2 ∧ r = 2) ∨ (¬ 0 ≤ x ∧ r = 0)) (h : post (PG, CN, QZ, QN, QC, QV, CT, SD, FA, fl_u RT (fun _ => r) 4, OO, JA, JB, OC, RG, CE)) : ∃ n : Nat, wY_init_84 post x PG CN QZ QN QC QV CT SD FA n 0 RT OO JA JB OC RG CE := by
  have w : ∀ d i : Nat, i + d = 4 → wY_init_84 post x PG CN QZ QN QC QV CT SD FA (d + 1) (nI i) (fl_u RT (fun _ => r) i) OO JA JB OC RG CE := by
    intro d
    induction d with
    | zero =>
      intro i hi
      have e : i = 4 := by omega
      subst e
      exact br_t (nI_le (a := 4) (b := 4) (by omega) (by omega)) h
    | succ d ih =>
      intro i hi
      have ci : (nI i).toNatClampNeg = i := nI_clamp (by omega)
      have ii : vp_in (nI i) 4 := vp_in_nI (by omega) (by omega)
      have e1 : upd (fl_u RT (fun _ => r) i) (nI i).toNatClampNeg r = fl_u RT (fun _ => r) (i + 1) := by rw [ci]; exact fl_s (v := fun _ => r)
      have ih' := ih (i + 1) (by omega)
      refine br_f (nI_ge (a := i) (b := 4) (by omega) (by omega)) ?_
      rcases hr with ⟨a, b, e⟩ | ⟨a, b, e⟩ | ⟨a, e⟩
      · subst e
        exact br_t a (br_t b (And.intro ii (nm_r e1 (nm_r (nI_1 i) ih'))))
      · subst e
        exact br_t a (br_f b (And.intro ii (nm_r e1 (nm_r (nI_1 i) ih'))))
      · subst e
        exact br_f a (And.intro ii (nm_r e1 (nm_r (nI_1 i) ih')))
  have w0 := w 4 0 rfl
  rw [fl_0] at w0
  exact ⟨5, w0⟩
end
section
theorem vc_rel {P r : Int32} (hP : gu_pg P) : i_Rel 2 (P, 0, 0, 0, 0, 0, 0, 0, 0, 0, 0, 0, 0, 0, 0, fun _ => 0, fun _ => 0, fl_u (fun _ => 0) (fun _ => r) 4, fun _ => 0, fun _ => 0, fun _ => 0, fun _ => 0, fun _ => 0, fun _ => 0, fun _ => 0, fun _ => 0, fun _ => 0, fun _ => 0, fun _ => 0, fun _ => 0, fun _ => 0, fun _ => 0, fun _ => 0, fun _ => 0, fun _ => 0, fun _ => 0, fun _ => 0, fun _ => 0, fun _ => 0, fun _ => 0, fun _ => 0, fun _ => 0, fun _ => 0, fun _ => 0, fun _ => 0, fun _ => 0, fun _ => 0, fun _ => 0, fun _ => 0, fun _ => 0) (P, 0, 0, 0, 0, 0, 0, 0, 0, fl_u (fun _ => 0) (fun _ => r) 4, fun _ => 0, fun _ => 0, fun _ => 0, fun _ => 0, fun _ => 0, fun _ => 0) := by
  have h0 : (fun _ : Nat => (0 : Int32)) = fun j => (fun _ : Nat => (0 : Int32)) j &&& 7 := by
    funext j
    exact (by decide : (0 : Int32) = 0 &&& 7)
  have w := rl_in (k := 2) (PG := P) (FB := 0) (CT := 0) (SD := 0) (FA := 0) (CN := 0) (PN := 0) (SL := 0) (NT := 0) (CG := 0) (FK := 0) (FX := 0) (FY := 0) (FZ := 0) (KC := 0) (QZ := 0) (QN := 0) (QC := 0) (QV := 0) (RG := fun _ => 0) (CE := fun _ => 0) (RT := fl_u (fun _ => 0) (fun _ => r) 4) (OO := fun _ => 0) (OC := fun _ => 0) (BS := fun _ => 0) (BL := fun _ => 0) (HC := fun _ => 0) (SC := fun _ => 0) (ZR := fun _ => 0) (TM := fun _ => 0) (PA := fun _ => 0) (PV := fun _ => 0) (HO := fun _ => 0) (CO := fun _ => 0) (CV := fun _ => 0) (NZ := fun _ => 0) (NE := fun _ => 0) (KB := fun _ => 0) (KO := fun _ => 0) (KT := fun _ => 0) (JA := fun _ => 0) (JB := fun _ => 0) (H := fun _ => (0, 0, 0, 0, 0, 0, 0, 0)) (Z := fun _ => (0, 0, 0, 0)) ⟨hP, fun j => ⟨0, by omega, rfl⟩, ⟨Or.inl rfl, Or.inl rfl, Or.inl rfl, Or.inl rfl, by decide⟩, 0, by omega, rfl, fun s hs => Or.inl rfl⟩
  rw [← h0] at w
  exact w
theorem vc_24 {k0 k1 P : Int32} (hP : gu_pg P) (hY : ∀ u : SX, (∃ n : Nat, wY_init_84 (fun v => i_Rel 2 u v) k1 P 0 0 0 0 0 0 0 0 n 0 (fun _ => 0) (fun _ => 0) (fun _ => 0) (fun _ => 0) (fun _ => 0) (fun _ => 0) (fun _ => 0)) → wpY_init (fun v => i_Rel 2 u v) k0 k1) : wX_init_24 (fun u => wpY_init (fun v => i_Rel 2 u v) k0 k1) k1 P 0 0 0 0 0 0 0 0 0 0 0 0 0 0 0 := by
  refine br_c (fun a => br_c (fun b => ?_) (fun b => ?_)) (fun a => ?_)
  · exact xw_i325 (H := fun _ => (0, 0, 0, 0, 0, 0, 0, 0)) (Z := fun _ => (0, 0, 0, 0)) (hY _ (yw_i84 (Or.inl ⟨a, b, rfl⟩) (vc_rel hP)))
  · exact xw_i325 (H := fun _ => (0, 0, 0, 0, 0, 0, 0, 0)) (Z := fun _ => (0, 0, 0, 0)) (hY _ (yw_i84 (Or.inr (Or.inl ⟨a, b, rfl⟩)) (vc_rel hP)))
  · exact xw_i325 (H := fun _ => (0, 0, 0, 0, 0, 0, 0, 0)) (Z := fun _ => (0, 0, 0, 0)) (hY _ (yw_i84 (Or.inr (Or.inr ⟨a, rfl⟩)) (vc_rel hP)))
theorem i_vc0 (k0 : Int32) (k1 : Int32) : wpX_init (fun u => wpY_init (fun v => i_Rel 2 u v) k0 k1) k0 k1 := by
  refine br_c (fun a => br_c (fun b => ?_) (fun b => ?_)) (fun a => ?_)
  · have n0 : ¬ k0 < 0 := fun z => absurd (Int32.lt_of_lt_of_le z (by decide : (0 : Int32) ≤ 1)) (Int32.not_lt.mpr a)
    obtain ⟨j, hj, e⟩ := nI_of2 (M := 4) (n := 4) (by decide) n0 b
    have h1 : 1 ≤ j := by
      rw [e] at a
      exact (nI_leI (a := 1) (b := j) (by omega) (by omega)).mp a
    exact vc_24 ⟨j, h1, hj, e⟩ (fun u h => br_t a (br_t b h))
  · exact vc_24 ⟨4, by omega, by omega, rfl⟩ (fun u h => br_t a (br_f b h))
  · exact vc_24 ⟨1, by omega, by omega, rfl⟩ (fun u h => br_f a h)
theorem i_vc_emit {k : Nat} {u : SX} {v : SY} (I : i_Rel k u v) (hk : k + 5 ≤ 2562) (v1 : Int32) (v2 : Int32) (v3 : Int32) (v4 : Int32) : wpX_emit (fun r u' => wpY_emit (fun r' v' => r' = r ∧ i_Rel (k + 5) u' v') v v1 v2 v3 v4) u v1 v2 v3 v4 := by
  refine rl_el (P := fun u v => wpX_emit (fun r u' => wpY_emit (fun r' v' => r' = r ∧ i_Rel (k + 5) u' v') v v1 v2 v3 v4) u v1 v2 v3 v4) ?_ I
  intro PG FB CT SD FA CN PN SL NT CG FK FX FY FZ KC QZ QN QC QV RG CE RT OO OC BS BL HC SC ZR TM PA PV HO CO CV NZ NE KB KO KT JA JB H Z ok
  obtain ⟨hp, hop, hb, cn, hcn, rfl, hB⟩ := ok
  refine br_c (fun a => br_t a ⟨rfl, rl_in ⟨hp, hop, hb, cn, hcn, rfl, hB⟩⟩) (fun a => br_c (fun b => br_c (fun c => ?_) (fun c => ?_)) (fun b => br_f a (br_f b ⟨rfl, rl_in ⟨hp, hop, hb, cn, hcn, rfl, hB⟩⟩)))
  · have c' := (nI_ltI (a := cn) (b := 40) (by omega) (by omega)).mp c
    have cc : (nI cn).toNatClampNeg = cn := nI_clamp (by omega)
    have i40 : vp_in (nI cn) 40 := vp_in_nI (by omega) (by omega)
    have n40 : ¬ nI cn = 40 := by
      intro z
      have := (nI_eq (a := cn) (b := 40) (by omega) (by omega)).mp z
      omega
    have e1 : upd OO (nI cn).toNatClampNeg v1 = upd OO cn v1 := by rw [cc]
    have e2 : upd (fun j => JA j &&& 7) (nI cn).toNatClampNeg (v2 &&& 7) = fun j => upd JA cn v2 j &&& 7 := by rw [cc]; exact mk_up
    have e3 : upd (fun j => JB j &&& 7) (nI cn).toNatClampNeg (v3 &&& 7) = fun j => upd JB cn v3 j &&& 7 := by rw [cc]; exact mk_up
    have e4 : upd OC (nI cn).toNatClampNeg v4 = upd OC cn v4 := by rw [cc]
    have e5 : upd JA (nI cn).toNatClampNeg v2 = upd JA cn v2 := by rw [cc]
    have e6 : upd JB (nI cn).toNatClampNeg v3 = upd JB cn v3 := by rw [cc]
    obtain ⟨on, o1, o2⟩ := nI_of2 (M := 12) (n := 12) (by decide) a b
    refine And.intro i40 (nm_r e1 (And.intro i40 (nm_r e2 (And.intro i40 (nm_r e3 (And.intro i40 (nm_r e4 (nm_r (nI_1 cn) (xw_forget ?_)))))))))
    refine br_f a (br_t b (br_f n40 (And.intro i40 (nm_r e1 (And.intro i40 (nm_r e5 (And.intro i40 (nm_r e6 (And.intro i40 (nm_r e4 (nm_r (nI_1 cn) ⟨rfl, ?_⟩)))))))))))
    refine rl_in ⟨hp, fun j => ?_, hb, cn + 1, by omega, rfl, bk_none⟩
    by_cases e : j = cn
    · rw [e, pk_us]; exact ⟨on, o1, o2⟩
    · rw [pk_un e]; exact hop j
  · have e40 : nI cn = 40 := by
      have h : ¬ cn < 40 := fun z => c ((nI_ltI (a := cn) (b := 40) (by omega) (by omega)).mpr z)
      have h2 : cn = 40 := by omega
      rw [h2]; rfl
    exact br_f a (br_t b (br_t e40 ⟨rfl, rl_in ⟨hp, hop, hb, cn, hcn, rfl, hB⟩⟩))
theorem i_vc_drop {k : Nat} {u : SX} {v : SY} (I : i_Rel k u v) (hk : k + 5 ≤ 2562) : wpX_drop (fun r u' => wpY_drop (fun r' v' => r' = r ∧ i_Rel (k + 5) u' v') v) u := by
  refine rl_el (P := fun u v => wpX_drop (fun r u' => wpY_drop (fun r' v' => r' = r ∧ i_Rel (k + 5) u' v') v) u) ?_ I
  intro PG FB CT SD FA CN PN SL NT CG FK FX FY FZ KC QZ QN QC QV RG CE RT OO OC BS BL HC SC ZR TM PA PV HO CO CV NZ NE KB KO KT JA JB H Z ok
  obtain ⟨hp, hop, hb, cn, hcn, rfl, hB⟩ := ok
  refine br_c (fun a => br_t a ⟨rfl, rl_in ⟨hp, hop, hb, cn, hcn, rfl, hB⟩⟩) (fun a => ?_)
  have c0 : cn ≠ 0 := fun e => a (by rw [e]; rfl)
  obtain ⟨m, rfl⟩ : ∃ m, cn = m + 1 := ⟨cn - 1, by omega⟩
  refine nm_r (nI_pred m) (xw_forget ?_)
  exact br_f a (nm_r (nI_pred m) ⟨rfl, rl_in ⟨hp, hop, hb, m, by omega, rfl, bk_none⟩⟩)
theorem i_vc_setReg {k : Nat} {u : SX} {v : SY} (I : i_Rel k u v) (hk : k + 5 ≤ 2562) (v1 : Int32) (v2 : Int32) : wpX_setReg (fun r u' => wpY_setReg (fun r' v' => r' = r ∧ i_Rel (k + 5) u' v') v v1 v2) u v1 v2 := by
  refine rl_el (P := fun u v => wpX_setReg (fun r u' => wpY_setReg (fun r' v' => r' = r ∧ i_Rel (k + 5) u' v') v v1 v2) u v1 v2) ?_ I
  intro PG FB CT SD FA CN PN SL NT CG FK FX FY FZ KC QZ QN QC QV RG CE RT OO OC BS BL HC SC ZR TM PA PV HO CO CV NZ NE KB KO KT JA JB H Z ok
  obtain ⟨hp, hop, hb, cn, hcn, rfl, hB⟩ := ok
  refine br_c (fun a => br_t a ⟨rfl, rl_in ⟨hp, hop, hb, cn, hcn, rfl, hB⟩⟩) (fun a => br_c (fun b => ?_) (fun b => br_f a (br_f b ⟨rfl, rl_in ⟨hp, hop, hb, cn, hcn, rfl, hB⟩⟩)))
  obtain ⟨j, j1, j2⟩ := nI_of2 (M := 7) (n := 7) (by decide) a b
  have i8 : vp_in v1 8 := by rw [j2]; exact vp_in_nI (by omega) (by omega)
  exact And.intro i8 (nm_e (br_f a (br_t b (And.intro i8 (nm_e ⟨rfl, rl_in ⟨hp, hop, hb, cn, hcn, rfl, hB⟩⟩)))))
theorem i_vc_setFlags {k : Nat} {u : SX} {v : SY} (I : i_Rel k u v) (hk : k + 5 ≤ 2562) (v1 : Int32) : wpX_setFlags (fun u' => wpY_setFlags (fun v' => i_Rel (k + 5) u' v') v v1) u v1 := by
  refine rl_el (P := fun u v => wpX_setFlags (fun u' => wpY_setFlags (fun v' => i_Rel (k + 5) u' v') v v1) u v1) ?_ I
  intro PG FB CT SD FA CN PN SL NT CG FK FX FY FZ KC QZ QN QC QV RG CE RT OO OC BS BL HC SC ZR TM PA PV HO CO CV NZ NE KB KO KT JA JB H Z ok
  obtain ⟨hp, hop, hb, cn, hcn, rfl, hB⟩ := ok
  exact nm_e (nm_e (nm_e (nm_e (nm_e (rl_in ⟨hp, hop, gu_bt_set v1, cn, hcn, rfl, hB⟩)))))
theorem i_vc_poke {k : Nat} {u : SX} {v : SY} (I : i_Rel k u v) (hk : k + 5 ≤ 2562) (v1 : Int32) (v2 : Int32) : wpX_poke (fun r u' => wpY_poke (fun r' v' => r' = r ∧ i_Rel (k + 5) u' v') v v1 v2) u v1 v2 := by
  refine rl_el (P := fun u v => wpX_poke (fun r u' => wpY_poke (fun r' v' => r' = r ∧ i_Rel (k + 5) u' v') v v1 v2) u v1 v2) ?_ I
  intro PG FB CT SD FA CN PN SL NT CG FK FX FY FZ KC QZ QN QC QV RG CE RT OO OC BS BL HC SC ZR TM PA PV HO CO CV NZ NE KB KO KT JA JB H Z ok
  obtain ⟨hp, hop, hb, cn, hcn, rfl, hB⟩ := ok
  unfold wpX_poke
  dsimp only
  refine xw_ins (fun a => br_t rfl ?_) (fun a b => br_t rfl ?_) (fun a b => br_f (by decide) (And.intro (gu_in32 hp a b).1 (nm_e ?_)))
  · unfold wpY_poke
    dsimp only
    exact yw_ins (fun _ => br_t rfl ⟨rfl, rl_in ⟨hp, hop, hb, cn, hcn, rfl, hB⟩⟩) (fun z _ => absurd a z) (fun z _ => absurd a z)
  · unfold wpY_poke
    dsimp only
    exact yw_ins (fun z => absurd z a) (fun _ _ => br_t rfl ⟨rfl, rl_in ⟨hp, hop, hb, cn, hcn, rfl, hB⟩⟩) (fun _ z => absurd b z)
  · unfold wpY_poke
    dsimp only
    exact yw_ins (fun z => absurd z a) (fun _ z => absurd z b) (fun _ _ => br_f (by decide) (And.intro (gu_in32 hp a b).1 (nm_e ⟨rfl, rl_in ⟨hp, hop, hb, cn, hcn, rfl, hB⟩⟩)))
theorem i_vc_setPage {k : Nat} {u : SX} {v : SY} (I : i_Rel k u v) (hk : k + 5 ≤ 2562) (v1 : Int32) (v2 : Int32) : wpX_setPage (fun r u' => wpY_setPage (fun r' v' => r' = r ∧ i_Rel (k + 5) u' v') v v1 v2) u v1 v2 := by
  refine rl_el (P := fun u v => wpX_setPage (fun r u' => wpY_setPage (fun r' v' => r' = r ∧ i_Rel (k + 5) u' v') v v1 v2) u v1 v2) ?_ I
  intro PG FB CT SD FA CN PN SL NT CG FK FX FY FZ KC QZ QN QC QV RG CE RT OO OC BS BL HC SC ZR TM PA PV HO CO CV NZ NE KB KO KT JA JB H Z ok
  obtain ⟨hp, hop, hb, cn, hcn, rfl, hB⟩ := ok
  refine br_c (fun a => br_t a ⟨rfl, rl_in ⟨hp, hop, hb, cn, hcn, rfl, hB⟩⟩) (fun a => br_c (fun b => br_c (fun c => br_f a (br_t b (br_t c ⟨rfl, rl_in ⟨hp, hop, hb, cn, hcn, rfl, hB⟩⟩))) (fun c => br_c (fun d => ?_) (fun d => br_f a (br_t b (br_f c (br_f d ⟨rfl, rl_in ⟨hp, hop, hb, cn, hcn, rfl, hB⟩⟩)))))) (fun b => br_f a (br_f b ⟨rfl, rl_in ⟨hp, hop, hb, cn, hcn, rfl, hB⟩⟩)))
  have i4 : vp_in v1 4 := by
    obtain ⟨p, p1, p2, p3⟩ := hp
    obtain ⟨j, j1, j2⟩ := nI_of a
    rw [j2, p3, nI_ltI j1 (by omega)] at b
    rw [j2]
    exact vp_in_nI (by omega) (by omega)
  exact And.intro i4 (nm_e (br_f a (br_t b (br_f c (br_t d (And.intro i4 (nm_e ⟨rfl, rl_in ⟨hp, hop, hb, cn, hcn, rfl, hB⟩⟩)))))))
theorem i_vc_jump {k : Nat} {u : SX} {v : SY} (I : i_Rel k u v) (hk : k + 5 ≤ 2562) (v1 : Int32) : wpX_jump (fun u' => wpY_jump (fun v' => i_Rel (k + 5) u' v') v v1) u v1 := by
  refine rl_el (P := fun u v => wpX_jump (fun u' => wpY_jump (fun v' => i_Rel (k + 5) u' v') v v1) u v1) ?_ I
  intro PG FB CT SD FA CN PN SL NT CG FK FX FY FZ KC QZ QN QC QV RG CE RT OO OC BS BL HC SC ZR TM PA PV HO CO CV NZ NE KB KO KT JA JB H Z ok
  obtain ⟨hp, hop, hb, cn, hcn, rfl, hB⟩ := ok
  exact rl_in (k := k + 5) ⟨hp, hop, hb, cn, hcn, rfl, hB⟩
theorem i_vc_run {k : Nat} {u : SX} {v : SY} (I : i_Rel k u v) (hk : k + 5 ≤ 2562) (v1 : Int32) : wpX_run (fun r u' => wpY_run (fun r' v' => r' = r ∧ i_Rel (k + 5) u' v') v v1) u v1 := by
  refine rl_el (P := fun u v => wpX_run (fun r u' => wpY_run (fun r' v' => r' = r ∧ i_Rel (k + 5) u' v') v v1) u v1) ?_ I
  intro PG FB CT SD FA CN PN SL NT CG FK FX FY FZ KC QZ QN QC QV RG CE RT OO OC BS BL HC SC ZR TM PA PV HO CO CV NZ NE KB KO KT JA JB H Z ok
  obtain ⟨hp, hop, hb, cn, hcn, rfl, hB⟩ := ok
  have key : ∀ lim : Nat, lim ≤ 300 → (∀ q : Int32 → SY → Prop, wY_run_22 q (nI lim) PG (nI cn) QZ QN QC QV CT SD FA RT OO JA JB OC RG CE → wpY_run q (PG, nI cn, QZ, QN, QC, QV, CT, SD, FA, RT, OO, JA, JB, OC, RG, CE) v1) → wX_run_22 (fun r u' => wpY_run (fun r' v' => r' = r ∧ i_Rel (k + 5) u' v') (PG, nI cn, QZ, QN, QC, QV, CT, SD, FA, RT, OO, JA, JB, OC, RG, CE) v1) (nI lim) PG FB CT SD FA (nI cn) PN SL NT CG FK FX FY FZ KC RG CE RT OO (fun j => JA j &&& 7) (fun j => JB j &&& 7) OC BS BL HC SC (ho_K H) (ho_X H) (ho_Y H) (ho_Z H) (ho_I H) (ho_R H) (ho_G H) (ho_S H) ZR (sn_K Z) (sn_X Z) (sn_Y Z) (sn_Z Z) TM PA PV HO CO CV NZ NE KB KO KT := by
    intro lim hl hY
    exact ⟨lim + 2, rn_loop (Y0 := fun q => wpY_run q (PG, nI cn, QZ, QN, QC, QV, CT, SD, FA, RT, OO, JA, JB, OC, RG, CE) v1) (k := k) (lim := lim) hp hcn hop hl lim lim 0 (lim + 2) 0 FB CT 0 PN SL NT CG FK FX FY FZ KC QZ QN QC QV RG CE BS BL HC SC ZR TM PA PV HO CO CV NZ NE KB KO KT H Z (Nat.le_refl _) (Nat.zero_add lim) (Nat.le_refl _) (Nat.le_refl _) hb hB (fun q w => hY q ⟨lim + 1, w⟩)⟩
  refine br_c (fun a => br_c (fun b => ?_) (fun b => ?_)) (fun a => ?_)
  · obtain ⟨j, j1, j2⟩ := nI_of2 (M := 300) (n := 300) (by decide) (Int32.not_lt.mpr a) b
    have w := key j j1 (fun q w => br_t a (br_t b (by rw [j2]; exact w)))
    rw [← j2] at w
    exact w
  · exact key 300 (Nat.le_refl _) (fun q w => br_t a (br_f b w))
  · exact key 0 (by omega) (fun q w => br_f a w)
theorem i_vc_reset {k : Nat} {u : SX} {v : SY} (I : i_Rel k u v) (hk : k + 5 ≤ 2562) : wpX_reset (fun u' => wpY_reset (fun v' => i_Rel (k + 5) u' v') v) u := by
  refine rl_el (P := fun u v => wpX_reset (fun u' => wpY_reset (fun v' => i_Rel (k + 5) u' v') v) u) ?_ I
  intro PG FB CT SD FA CN PN SL NT CG FK FX FY FZ KC QZ QN QC QV RG CE RT OO OC BS BL HC SC ZR TM PA PV HO CO CV NZ NE KB KO KT JA JB H Z ok
  obtain ⟨hp, hop, hb, cn, hcn, rfl, hB⟩ := ok
  exact xw_reset (yw_reset (rl_in ⟨hp, hop, gu_bt_set 0, cn, hcn, rfl, hB⟩))
theorem i_vc_reg {k : Nat} {u : SX} {v : SY} (I : i_Rel k u v) (hk : k + 5 ≤ 2562) (v1 : Int32) : wpX_reg (fun r => wpY_reg (fun r' => r' = r ∧ i_Rel (k + 5) u v) v v1) u v1 := by
  refine rl_el (P := fun u v => wpX_reg (fun r => wpY_reg (fun r' => r' = r ∧ i_Rel (k + 5) u v) v v1) u v1) ?_ I
  intro PG FB CT SD FA CN PN SL NT CG FK FX FY FZ KC QZ QN QC QV RG CE RT OO OC BS BL HC SC ZR TM PA PV HO CO CV NZ NE KB KO KT JA JB H Z ok
  obtain ⟨hp, hop, hb, cn, hcn, rfl, hB⟩ := ok
  refine br_c (fun a => br_t a ⟨rfl, rl_in ⟨hp, hop, hb, cn, hcn, rfl, hB⟩⟩) (fun a => br_c (fun b => ?_) (fun b => br_f a (br_f b ⟨rfl, rl_in ⟨hp, hop, hb, cn, hcn, rfl, hB⟩⟩)))
  obtain ⟨j, j1, j2⟩ := nI_of2 (M := 7) (n := 7) (by decide) a b
  have i8 : vp_in v1 8 := by rw [j2]; exact vp_in_nI (by omega) (by omega)
  exact And.intro i8 (br_f a (br_t b (And.intro i8 ⟨rfl, rl_in ⟨hp, hop, hb, cn, hcn, rfl, hB⟩⟩)))
theorem i_vc_flags {k : Nat} {u : SX} {v : SY} (I : i_Rel k u v) (hk : k + 5 ≤ 2562) : wpX_flags (fun r => wpY_flags (fun r' => r' = r ∧ i_Rel (k + 5) u v) v) u := by
  refine rl_el (P := fun u v => wpX_flags (fun r => wpY_flags (fun r' => r' = r ∧ i_Rel (k + 5) u v) v) u) ?_ I
  intro PG FB CT SD FA CN PN SL NT CG FK FX FY FZ KC QZ QN QC QV RG CE RT OO OC BS BL HC SC ZR TM PA PV HO CO CV NZ NE KB KO KT JA JB H Z ok
  obtain ⟨hp, hop, hb, cn, hcn, rfl, hB⟩ := ok
  exact ⟨hb.2.2.2.2.symm, rl_in ⟨hp, hop, hb, cn, hcn, rfl, hB⟩⟩
theorem i_vc_peek {k : Nat} {u : SX} {v : SY} (I : i_Rel k u v) (hk : k + 5 ≤ 2562) (v1 : Int32) : wpX_peek (fun r => wpY_peek (fun r' => r' = r ∧ i_Rel (k + 5) u v) v v1) u v1 := by
  refine rl_el (P := fun u v => wpX_peek (fun r => wpY_peek (fun r' => r' = r ∧ i_Rel (k + 5) u v) v v1) u v1) ?_ I
  intro PG FB CT SD FA CN PN SL NT CG FK FX FY FZ KC QZ QN QC QV RG CE RT OO OC BS BL HC SC ZR TM PA PV HO CO CV NZ NE KB KO KT JA JB H Z ok
  obtain ⟨hp, hop, hb, cn, hcn, rfl, hB⟩ := ok
  unfold wpX_peek
  dsimp only
  refine xw_ins (fun a => br_t rfl ?_) (fun a b => br_t rfl ?_) (fun a b => br_f (by decide) (And.intro (gu_in32 hp a b).1 ?_))
  · unfold wpY_peek
    dsimp only
    exact yw_ins (fun _ => br_t rfl ⟨rfl, rl_in ⟨hp, hop, hb, cn, hcn, rfl, hB⟩⟩) (fun z _ => absurd a z) (fun z _ => absurd a z)
  · unfold wpY_peek
    dsimp only
    exact yw_ins (fun z => absurd z a) (fun _ _ => br_t rfl ⟨rfl, rl_in ⟨hp, hop, hb, cn, hcn, rfl, hB⟩⟩) (fun _ z => absurd b z)
  · unfold wpY_peek
    dsimp only
    exact yw_ins (fun z => absurd z a) (fun _ z => absurd z b) (fun _ _ => br_f (by decide) (And.intro (gu_in32 hp a b).1 ⟨rfl, rl_in ⟨hp, hop, hb, cn, hcn, rfl, hB⟩⟩))
theorem i_vc_pc {k : Nat} {u : SX} {v : SY} (I : i_Rel k u v) (hk : k + 5 ≤ 2562) : wpX_pc (fun r => wpY_pc (fun r' => r' = r ∧ i_Rel (k + 5) u v) v) u := by
  refine rl_el (P := fun u v => wpX_pc (fun r => wpY_pc (fun r' => r' = r ∧ i_Rel (k + 5) u v) v) u) ?_ I
  intro PG FB CT SD FA CN PN SL NT CG FK FX FY FZ KC QZ QN QC QV RG CE RT OO OC BS BL HC SC ZR TM PA PV HO CO CV NZ NE KB KO KT JA JB H Z ok
  obtain ⟨hp, hop, hb, cn, hcn, rfl, hB⟩ := ok
  exact ⟨rfl, rl_in ⟨hp, hop, hb, cn, hcn, rfl, hB⟩⟩
theorem i_vc_steps {k : Nat} {u : SX} {v : SY} (I : i_Rel k u v) (hk : k + 5 ≤ 2562) : wpX_steps (fun r => wpY_steps (fun r' => r' = r ∧ i_Rel (k + 5) u v) v) u := by
  refine rl_el (P := fun u v => wpX_steps (fun r => wpY_steps (fun r' => r' = r ∧ i_Rel (k + 5) u v) v) u) ?_ I
  intro PG FB CT SD FA CN PN SL NT CG FK FX FY FZ KC QZ QN QC QV RG CE RT OO OC BS BL HC SC ZR TM PA PV HO CO CV NZ NE KB KO KT JA JB H Z ok
  obtain ⟨hp, hop, hb, cn, hcn, rfl, hB⟩ := ok
  exact ⟨rfl, rl_in ⟨hp, hop, hb, cn, hcn, rfl, hB⟩⟩
theorem i_vc_where {k : Nat} {u : SX} {v : SY} (I : i_Rel k u v) (hk : k + 5 ≤ 2562) : wpX_where (fun r => wpY_where (fun r' => r' = r ∧ i_Rel (k + 5) u v) v) u := by
  refine rl_el (P := fun u v => wpX_where (fun r => wpY_where (fun r' => r' = r ∧ i_Rel (k + 5) u v) v) u) ?_ I
  intro PG FB CT SD FA CN PN SL NT CG FK FX FY FZ KC QZ QN QC QV RG CE RT OO OC BS BL HC SC ZR TM PA PV HO CO CV NZ NE KB KO KT JA JB H Z ok
  obtain ⟨hp, hop, hb, cn, hcn, rfl, hB⟩ := ok
  exact ⟨rfl, rl_in ⟨hp, hop, hb, cn, hcn, rfl, hB⟩⟩
end
end
