section
theorem pk_us {f : Nat → Int32} {k : Nat} {x : Int32} : upd f k x k = x := if_pos rfl
theorem pk_un {f : Nat → Int32} {k j : Nat} {x : Int32} (h : j ≠ k) : upd f k x j = f j := if_neg h
theorem pk_uLs {f : Nat → Int64} {k : Nat} {x : Int64} : vp_updL f k x k = x := if_pos rfl
theorem pk_uLn {f : Nat → Int64} {k j : Nat} {x : Int64} (h : j ≠ k) : vp_updL f k x j = f j := if_neg h
theorem pk_sub {a b : Nat} (h : b ≤ a) : nI a - nI b = nI (a - b) := by
  obtain ⟨c, rfl⟩ : ∃ c, a = c + b := ⟨a - b, by omega⟩
  rw [← nI_add, Int32.add_sub_cancel, Nat.add_sub_cancel]
theorem pk_m1 (n : Nat) : nI (n + 1) + (-1) = nI n := by
  rw [← nI_1, Int32.add_assoc, show (1 : Int32) + (-1) = 0 from rfl, Int32.add_zero]
theorem pk_mul (a b : Nat) : nI a * nI b = nI (a * b) := (Int32.ofNat_mul a b).symm
theorem pk_div {a d : Nat} (ha : a < 2 ^ 31) (h0 : 0 < d) (hd : d < 2 ^ 31) : nI a / nI d = nI (a / d) := by
  apply Int32.toInt_inj.mp
  rw [lg_idiv_nonneg (by rw [nI_toInt ha]; omega) (by rw [nI_toInt hd]; omega), nI_toInt ha, nI_toInt hd, nI_toInt (Nat.lt_of_le_of_lt (Nat.div_le_self a d) ha)]
  first | rfl | exact (Int.natCast_ediv _ _).symm
theorem pk_rem {a d : Nat} (ha : a < 2 ^ 31) (h0 : 0 < d) (hd : d < 2 ^ 31) : nI a - nI a / nI d * nI d = nI (a % d) := by
  rw [pk_div ha h0 hd, pk_mul, pk_sub (Nat.div_mul_le_self a d)]
  exact congrArg nI (by have := Nat.div_add_mod' a d; omega)
theorem pk_sub_toInt {a b : Nat} (ha : a < 2 ^ 30) (hb : b < 2 ^ 30) : (nI a - nI b).toInt = (a : Int) - b := by
  rw [Int32.toInt_sub, nI_toInt (by omega), nI_toInt (by omega)]
  exact Int.bmod_eq_of_le (by omega) (by omega)
theorem pk_sneg {a b : Nat} (hb : b < 2 ^ 30) (h : a < b) : nI a - nI b < 0 := by
  rw [Int32.lt_iff_toInt_lt, pk_sub_toInt (by omega) hb, show (0 : Int32).toInt = 0 from by decide]
  omega
theorem pk_ix (x : Int32) {n : Nat} (hn : n < 2 ^ 31) : x < 0 ∨ nI n ≤ x ∨ ∃ j : Nat, j < n ∧ x = nI j := by
  by_cases h : x < 0
  · exact Or.inl h
  · obtain ⟨j, hj, rfl⟩ := nI_of h
    by_cases h2 : j < n
    · exact Or.inr (Or.inr ⟨j, h2, rfl⟩)
    · exact Or.inr (Or.inl (nI_le (by omega) hj))
theorem pk_le {x y : Int32} {A B : Prop} (a b : Nat) (f : a ≤ b → A) (g : b < a → B) (hx : x = nI a := by rfl) (hy : y = nI b := by rfl) (ha : a < 2 ^ 31 := by omega) (hb : b < 2 ^ 31 := by omega) : (x ≤ y → A) ∧ (¬ x ≤ y → B) := by
  subst hx hy
  rw [nI_leI ha hb]
  exact ⟨f, fun z => g (by omega)⟩
theorem pk_lt {x y : Int32} {A B : Prop} (a b : Nat) (f : a < b → A) (g : b ≤ a → B) (hx : x = nI a := by rfl) (hy : y = nI b := by rfl) (ha : a < 2 ^ 31 := by omega) (hb : b < 2 ^ 31 := by omega) : (x < y → A) ∧ (¬ x < y → B) := by
  subst hx hy
  rw [nI_ltI ha hb]
  exact ⟨f, fun z => g (by omega)⟩
theorem pk_eq {x y : Int32} {A B : Prop} (a b : Nat) (f : a = b → A) (g : a ≠ b → B) (hx : x = nI a := by rfl) (hy : y = nI b := by rfl) (ha : a < 2 ^ 31 := by omega) (hb : b < 2 ^ 31 := by omega) : (x = y → A) ∧ (¬ x = y → B) := by
  subst hx hy
  rw [nI_eq ha hb]
  exact ⟨f, g⟩
theorem pk_in {x : Int32} (n N : Nat) (h : n < N) (hx : x = nI n := by rfl) (hN : N < 2 ^ 31 := by omega) : vp_in x N := by
  subst hx
  exact vp_in_nI h hN
theorem pk_cl {x : Int32} (n : Nat) (hx : x = nI n := by rfl) (h : n < 2 ^ 31 := by omega) : x.toNatClampNeg = n := by
  subst hx
  exact nI_clamp h
theorem pk_tn {n : Nat} (h : n < 2 ^ 32) : (nI n).toBitVec.toNat = n := Nat.mod_eq_of_lt h
theorem pk_and (x : Int32) {m : Int32} (k : Nat) (hm : m.toBitVec.toNat = 2 ^ k - 1) : x &&& m = nI (x.toBitVec.toNat % 2 ^ k) := by
  apply Int32.toBitVec_inj.mp
  apply BitVec.eq_of_toNat_eq
  rw [Int32.toBitVec_and, BitVec.toNat_and, hm, Nat.and_two_pow_sub_one_eq_mod]
  show _ = (BitVec.ofNat 32 _).toNat
  rw [BitVec.toNat_ofNat]
  exact (Nat.mod_eq_of_lt (Nat.lt_of_le_of_lt (Nat.mod_le _ _) x.toBitVec.isLt)).symm
theorem pk_andN {n : Nat} (h : n < 2 ^ 32) {m : Int32} (k : Nat) (hm : m.toBitVec.toNat = 2 ^ k - 1) : nI n &&& m = nI (n % 2 ^ k) := by
  rw [pk_and _ k hm, pk_tn h]
theorem pk_andE (x : Int32) {m : Int32} (k : Nat) (hm : m.toBitVec.toNat = 2 ^ k - 1) : ∃ j : Nat, j < 2 ^ k ∧ x &&& m = nI j := ⟨_, Nat.mod_lt _ (Nat.two_pow_pos k), pk_and x k hm⟩
theorem pk_andIn (x : Int32) {m : Int32} (k : Nat) (hm : m.toBitVec.toNat = 2 ^ k - 1) (hk : k ≤ 30) : vp_in (x &&& m) (2 ^ k) := by
  obtain ⟨j, hj, e⟩ := pk_andE x k hm
  rw [e]
  exact vp_in_nI hj (Nat.lt_of_le_of_lt (Nat.pow_le_pow_right (by decide) hk) (by decide))
theorem pk_shl (a s : Int32) (k : Nat) (hs : (s.toBitVec.smod 32).toNat = k) : (a <<< s).toBitVec.toNat = a.toBitVec.toNat * 2 ^ k % 2 ^ 32 := by
  show (a.toBitVec <<< (s.toBitVec.smod 32).toNat).toNat = _
  rw [hs, BitVec.toNat_shiftLeft, Nat.shiftLeft_eq]
theorem pk_shlN {n : Nat} (s : Int32) (k : Nat) (hs : (s.toBitVec.smod 32).toNat = k) (h : n * 2 ^ k < 2 ^ 32) : nI n <<< s = nI (n * 2 ^ k) := by
  apply Int32.toBitVec_inj.mp
  apply BitVec.eq_of_toNat_eq
  have hn : n < 2 ^ 32 := Nat.lt_of_le_of_lt (Nat.le_mul_of_pos_right n (Nat.two_pow_pos k)) h
  rw [pk_shl _ _ k hs, pk_tn hn, pk_tn h, Nat.mod_eq_of_lt h]
theorem pk_shr (a s : Int32) (k : Nat) (hs : (s.toBitVec.smod 32).toNat = k) : (a >>> s).toInt = a.toInt >>> k := by
  show (a.toBitVec.sshiftRight (s.toBitVec.smod 32).toNat).toInt = _
  rw [hs, BitVec.toInt_sshiftRight]
  rfl
theorem pk_shrN {n : Nat} (h : n < 2 ^ 31) (s : Int32) (k : Nat) (hs : (s.toBitVec.smod 32).toNat = k) : nI n >>> s = nI (n / 2 ^ k) := by
  apply Int32.toInt_inj.mp
  have h2 : n / 2 ^ k ≤ n := Nat.div_le_self _ _
  rw [pk_shr _ _ k hs, nI_toInt h, nI_toInt (by omega), Int.shiftRight_eq_div_pow]
  rfl
theorem pk_ushr (x s : Int32) (k : Nat) (hs : ((s.toUInt32 &&& Int32.toUInt32 31).toBitVec % 32).toNat = k) : (x.toUInt32 >>> (s.toUInt32 &&& Int32.toUInt32 31)).toInt32.toBitVec.toNat = x.toBitVec.toNat / 2 ^ k := by
  have e : (x.toUInt32 >>> (s.toUInt32 &&& Int32.toUInt32 31)).toInt32.toBitVec = x.toBitVec >>> k := by
    rw [← hs]
    exact UInt32.toBitVec_shiftRight _ _
  rw [e, BitVec.toNat_ushiftRight, Nat.shiftRight_eq_div_pow]
theorem pk_ushrN {n : Nat} (hn : n < 2 ^ 32) (s : Int32) (k : Nat) (hs : ((s.toUInt32 &&& Int32.toUInt32 31).toBitVec % 32).toNat = k) : ((nI n).toUInt32 >>> (s.toUInt32 &&& Int32.toUInt32 31)).toInt32 = nI (n / 2 ^ k) := by
  apply Int32.toBitVec_inj.mp
  apply BitVec.eq_of_toNat_eq
  rw [pk_ushr _ s k hs, pk_tn hn, pk_tn (Nat.lt_of_le_of_lt (Nat.div_le_self _ _) hn)]
theorem pk_least (P : Nat → Prop) (h : ∃ k, P k) : ∃ k, P k ∧ ∀ j, j < k → ¬ P j := by
  obtain ⟨k, hk⟩ := h
  induction k using Nat.strongRecOn with
  | ind k ih =>
    by_cases e : ∃ j, j < k ∧ P j
    · obtain ⟨j, hj, pj⟩ := e
      exact ih j hj pj
    · exact ⟨k, hk, fun j hj pj => e ⟨j, hj, pj⟩⟩
def bt (x : Int32) (i : Nat) : Bool := x.toBitVec.getLsbD i
theorem b_ext {x y : Int32} (h : ∀ i, i < 32 → bt x i = bt y i) : x = y := Int32.toBitVec_inj.mp (BitVec.eq_of_getLsbD_eq (fun i hi => h i hi))
theorem b_or (x y : Int32) (i : Nat) : bt (x ||| y) i = (bt x i || bt y i) := by unfold bt; rw [Int32.toBitVec_or, BitVec.getLsbD_or]
theorem b_and (x y : Int32) (i : Nat) : bt (x &&& y) i = (bt x i && bt y i) := by unfold bt; rw [Int32.toBitVec_and, BitVec.getLsbD_and]
theorem b_xor (x y : Int32) (i : Nat) : bt (x ^^^ y) i = (bt x i ^^ bt y i) := by unfold bt; rw [Int32.toBitVec_xor, BitVec.getLsbD_xor]
theorem b_big {x : Int32} {i : Nat} (h : 32 ≤ i) : bt x i = false := BitVec.getLsbD_of_ge _ _ h
theorem b_255 (i : Nat) : bt 255 i = decide (i < 8) := by
  rcases Nat.lt_or_ge i 32 with h | h
  · exact (by decide +kernel : ∀ i, i < 32 → bt 255 i = decide (i < 8)) i h
  · rw [b_big h, decide_eq_false (by omega)]
theorem b_65535 (i : Nat) : bt 65535 i = decide (i < 16) := by
  rcases Nat.lt_or_ge i 32 with h | h
  · exact (by decide +kernel : ∀ i, i < 32 → bt 65535 i = decide (i < 16)) i h
  · rw [b_big h, decide_eq_false (by omega)]
theorem b_m1 : ∀ i, i < 32 → bt (-1) i = true := by decide +kernel
theorem b_0 (i : Nat) : bt 0 i = false := BitVec.getLsbD_zero
theorem s_l : ∀ n, n < 32 → ((nI n &&& 31).toBitVec.smod 32).toNat = n := by decide +kernel
theorem s_u : ∀ n, n < 32 → (((nI n).toUInt32 &&& Int32.toUInt32 31).toBitVec % 32).toNat = n := by decide +kernel
theorem b_shl (n : Nat) (hn : n < 32) (x : Int32) {i : Nat} (hi : i < 32) : bt (x <<< (nI n &&& 31)) i = (decide (n ≤ i) && bt x (i - n)) := by
  unfold bt
  rw [Int32.toBitVec_shiftLeft]
  show (x.toBitVec <<< ((nI n &&& 31).toBitVec.smod 32).toNat).getLsbD i = _
  rw [s_l n hn, BitVec.getLsbD_shiftLeft]
  rcases Nat.lt_or_ge i n with h | h
  · simp [h, Nat.not_le.mpr h]
  · simp [hi, h, Nat.not_lt.mpr h]
theorem b_ushr (n : Nat) (hn : n < 32) (x : Int32) (i : Nat) : bt ((x.toUInt32 >>> ((nI n).toUInt32 &&& Int32.toUInt32 31)).toInt32) i = bt x (n + i) := by
  show (x.toUInt32 >>> ((nI n).toUInt32 &&& Int32.toUInt32 31)).toBitVec.getLsbD i = x.toUInt32.toBitVec.getLsbD (n + i)
  rw [UInt32.toBitVec_shiftRight]
  show (x.toUInt32.toBitVec >>> (((nI n).toUInt32 &&& Int32.toUInt32 31).toBitVec % 32).toNat).getLsbD i = _
  rw [s_u n hn, BitVec.getLsbD_ushiftRight]
theorem b_sshr (n : Nat) (hn : n < 32) (x : Int32) {i : Nat} (hi : i < 32) : bt (x >>> (nI n &&& 31)) i = if n + i < 32 then bt x (n + i) else bt x 31 := by
  unfold bt
  rw [Int32.toBitVec_shiftRight]
  show (x.toBitVec.sshiftRight ((nI n &&& 31).toBitVec.smod 32).toNat).getLsbD i = _
  rw [s_l n hn, BitVec.getLsbD_sshiftRight, BitVec.msb_eq_getLsbD_last]
  simp [hi]
theorem b_shl8 (x : Int32) {i : Nat} (hi : i < 32) : bt (x <<< ((8 : Int32) &&& 31)) i = (decide (8 ≤ i) && bt x (i - 8)) := b_shl 8 (by omega) x hi
theorem b_shl16 (x : Int32) {i : Nat} (hi : i < 32) : bt (x <<< ((16 : Int32) &&& 31)) i = (decide (16 ≤ i) && bt x (i - 16)) := b_shl 16 (by omega) x hi
theorem b_shl24 (x : Int32) {i : Nat} (hi : i < 32) : bt (x <<< ((24 : Int32) &&& 31)) i = (decide (24 ≤ i) && bt x (i - 24)) := b_shl 24 (by omega) x hi
theorem b_sshr8 (x : Int32) {i : Nat} (hi : i < 32) : bt (x >>> ((8 : Int32) &&& 31)) i = if 8 + i < 32 then bt x (8 + i) else bt x 31 := b_sshr 8 (by omega) x hi
end
section
section
/-! numbers and arrays -/
def sm_vn (F : Nat → Nat) : Nat → Int32 := fun k => nI (F k)
def sm_un (F : Nat → Nat) (k v : Nat) : Nat → Nat := fun j => if j = k then v else F j
theorem sm_va (F : Nat → Nat) (k : Nat) : sm_vn F k = nI (F k) := rfl
theorem sm_vu (F : Nat → Nat) (k v : Nat) : upd (sm_vn F) k (nI v) = sm_vn (sm_un F k v) := by
  funext j
  show (if j = k then nI v else nI (F j)) = nI (if j = k then v else F j)
  split <;> rfl
theorem sm_vu0 (F : Nat → Nat) (k : Nat) : upd (sm_vn F) k 0 = sm_vn (sm_un F k 0) := sm_vu F k 0
theorem sm_unid {F : Nat → Nat} {k v : Nat} (h : F k = v) : sm_un F k v = F := by
  funext j
  unfold sm_un
  split
  · rename_i e; rw [e, h]
  · rfl
theorem sm_us {F : Nat → Nat} {k v : Nat} : sm_un F k v k = v := if_pos rfl
theorem sm_uo {F : Nat → Nat} {k v j : Nat} (h : j ≠ k) : sm_un F k v j = F j := if_neg h
theorem sm_uu {f : Nat → Int32} {k : Nat} {x y : Int32} : upd (upd f k x) k y = upd f k y := by
  funext j
  unfold upd
  split <;> rfl
theorem sm_uid {f : Nat → Int32} {k : Nat} {x : Int32} (h : f k = x) : upd f k x = f := by
  funext j
  unfold upd
  split
  · rename_i e; rw [e, h]
  · rfl
theorem sm_cl {k : Nat} (h : k < 2147483648) : (nI k).toNatClampNeg = k := nI_clamp (by omega)
theorem sm_inT {k n : Nat} (h : k < n) (hn : n < 2147483648) : vp_in (nI k) n ↔ True := ⟨fun _ => trivial, fun _ => vp_in_nI h (by omega)⟩
theorem sm_in {k n : Nat} (h : k < n) (hn : n < 2147483648) : vp_in (nI k) n := vp_in_nI h (by omega)
theorem sm_m8 (a : Nat) : 8 * nI a = nI (8 * a) := pk_mul 8 a
theorem sm_m9 (a : Nat) : 9 * nI a = nI (9 * a) := pk_mul 9 a
theorem sm_m3 (a : Nat) : 3 * nI a = nI (3 * a) := pk_mul 3 a
theorem sm_m10 (a : Nat) : 10 * nI a = nI (10 * a) := pk_mul 10 a
theorem sm_m32 (a : Nat) : 32 * nI a = nI (32 * a) := pk_mul 32 a
theorem sm_ix8 (a m : Nat) : 8 * nI a + nI m = nI (8 * a + m) := by rw [sm_m8, nI_add]
theorem sm_ix32 (a m : Nat) : 32 * nI a + nI m = nI (32 * a + m) := by rw [sm_m32, nI_add]
theorem sm_p1 (a : Nat) : nI a + 1 = nI (a + 1) := nI_add a 1
theorem sm_p2 (a : Nat) : nI a + 2 = nI (a + 2) := nI_add a 2
theorem sm_p3 (a : Nat) : nI a + 3 = nI (a + 3) := nI_add a 3
theorem sm_p4 (a : Nat) : nI a + 4 = nI (a + 4) := nI_add a 4
theorem sm_p5 (a : Nat) : nI a + 5 = nI (a + 5) := nI_add a 5
theorem sm_p6 (a : Nat) : nI a + 6 = nI (a + 6) := nI_add a 6
theorem sm_p7 (a : Nat) : nI a + 7 = nI (a + 7) := nI_add a 7
theorem sm_r3 {r : Nat} (h : r < 2147483648) : nI r - nI r / 3 * 3 = nI (r % 3) := pk_rem (d := 3) (by omega) (by omega) (by omega)
theorem sm_r64 {r : Nat} (h : r < 2147483648) : nI r - nI r / 64 * 64 = nI (r % 64) := pk_rem (d := 64) (by omega) (by omega) (by omega)
theorem sm_r32 {r : Nat} (h : r < 2147483648) : nI r - nI r / 32 * 32 = nI (r % 32) := pk_rem (d := 32) (by omega) (by omega) (by omega)
theorem sm_d3 {r : Nat} (h : r < 2147483648) : nI r / 3 = nI (r / 3) := pk_div (d := 3) (by omega) (by omega) (by omega)
theorem sm_d32 {r : Nat} (h : r < 2147483648) : nI r / 32 = nI (r / 32) := pk_div (d := 32) (by omega) (by omega) (by omega)
theorem sm_s1 {n : Nat} (h : 0 < n) : nI n - 1 = nI (n - 1) := pk_sub (b := 1) h
theorem sm_mm1 {n : Nat} (h : 0 < n) : nI n + (-1) = nI (n - 1) := by
  obtain ⟨m, rfl⟩ : ∃ m, n = m + 1 := ⟨n - 1, by omega⟩
  exact pk_m1 m
theorem sm_n3 : ¬ (3 : Int32) = 0 := by decide
theorem sm_n64 : ¬ (64 : Int32) = 0 := by decide
theorem sm_n32 : ¬ (32 : Int32) = 0 := by decide
theorem sm_nle {a b : Nat} (hb : b < 2147483648) (h : a < b) : ¬ nI b ≤ nI a := nI_ge h (by omega)
theorem sm_le {a b : Nat} (hb : b < 2147483648) (h : a ≤ b) : nI a ≤ nI b := nI_le h (by omega)
theorem sm_ne {a b : Nat} (ha : a < 2147483648) (hb : b < 2147483648) (h : a ≠ b) : ¬ nI a = nI b := fun e => h ((nI_eq (by omega) (by omega)).mp e)
theorem sm_ei {a b : Nat} (e : nI a = nI b) (ha : a < 2147483648) (hb : b < 2147483648) : a = b := (nI_eq (by omega) (by omega)).mp e
theorem sm_nm1 {a : Nat} (ha : a < 2147483648) : ¬ nI a = -1 := by
  intro e
  have h : ¬ nI a < 0 := nI_pos (by omega)
  rw [e] at h
  exact h (by decide)
theorem sm_m1n {a : Nat} (ha : a < 2147483648) : ¬ -1 = nI a := fun e => sm_nm1 ha e.symm
theorem sm_m31 {n : Nat} (h : n < 2147483648) : nI n &&& 31 = nI (n % 32) := pk_andN (by omega) 5 (by decide)
theorem sm_m7 {n : Nat} (h : n < 2147483648) : nI n &&& 7 = nI (n % 8) := pk_andN (by omega) 3 (by decide)
theorem sm_m255 {n : Nat} (h : n < 2147483648) : nI n &&& 255 = nI (n % 256) := pk_andN (by omega) 8 (by decide)
/-! bits -/
theorem sm_bt1 : ∀ j, j < 32 → bt 1 j = decide (j = 0) := by decide +kernel
theorem sm_bt2 : ∀ j, j < 32 → bt (-2) j = decide (1 ≤ j) := by decide +kernel
theorem sm_b1 {m i : Nat} (hm : m < 32) (hi : i < 32) : bt ((1 : Int32) <<< (nI m &&& 31)) i = decide (i = m) := by
  rw [b_shl m hm 1 hi, sm_bt1 (i - m) (by omega)]
  by_cases h : i = m
  · subst h; simp
  · rw [decide_eq_false h]
    by_cases h2 : m ≤ i
    · rw [decide_eq_false (p := i - m = 0) (by omega), Bool.and_false]
    · rw [decide_eq_false h2, Bool.false_and]
abbrev sm_ob (x : Int32) (m : Nat) : Int32 := x ||| ((1 : Int32) <<< (nI m &&& 31))
abbrev sm_cb (x : Int32) (m : Nat) : Int32 := x &&& (((1 : Int32) <<< (nI m &&& 31)) ^^^ (-1))
theorem sm_not (x : Int32) {i : Nat} (hi : i < 32) : bt (x ^^^ (-1)) i = !bt x i := by
  rw [b_xor, b_m1 i hi, Bool.xor_true]
theorem sm_obb (x : Int32) {m i : Nat} (hm : m < 32) (hi : i < 32) : bt (sm_ob x m) i = (bt x i || decide (i = m)) := by
  show bt (x ||| ((1 : Int32) <<< (nI m &&& 31))) i = _
  rw [b_or, sm_b1 hm hi]
theorem sm_cbb (x : Int32) {m i : Nat} (hm : m < 32) (hi : i < 32) : bt (sm_cb x m) i = (bt x i && !decide (i = m)) := by
  show bt (x &&& (((1 : Int32) <<< (nI m &&& 31)) ^^^ (-1))) i = _
  rw [b_and, sm_not _ hi, sm_b1 hm hi]
theorem sm_z {x : Int32} (h : ∀ i, i < 32 → bt x i = false) : x = 0 := b_ext fun i hi => by rw [h i hi, b_0]
theorem sm_nz {x : Int32} (h : ¬ x = 0) : ∃ i, i < 32 ∧ bt x i = true := by
  apply Classical.byContradiction
  intro n
  apply h
  apply sm_z
  intro i hi
  cases e : bt x i
  · rfl
  · exact absurd ⟨i, hi, e⟩ n
theorem sm_addor {x y : Int32} (h : x &&& y = 0) : x + y = x ||| y := by
  apply Int32.toBitVec_inj.mp
  rw [Int32.toBitVec_add, Int32.toBitVec_or]
  refine BitVec.add_eq_or_of_and_eq_zero _ _ ?_
  rw [← Int32.toBitVec_and, h]
  rfl
theorem sm_bm1 : ∀ s, s < 32 → ∀ i, i < 32 → bt (((1 : Int32) <<< (nI s &&& 31)) - 1) i = decide (i < s) := by decide +kernel
theorem sm_clow {x : Int32} {s : Nat} (hs : s < 32) (hb : bt x s = true) (hl : ∀ j, j < s → bt x j = false) {i : Nat} (hi : i < 32) : bt (x &&& (x - 1)) i = (bt x i && !decide (i = s)) := by
  have e1 : x = sm_cb x s + ((1 : Int32) <<< (nI s &&& 31)) := by
    rw [sm_addor]
    · apply b_ext
      intro j hj
      rw [b_or, sm_cbb x hs hj, sm_b1 hs hj]
      by_cases h : j = s
      · subst h; simp [hb]
      · simp [h]
    · apply sm_z
      intro j hj
      rw [b_and, sm_cbb x hs hj, sm_b1 hs hj]
      by_cases h : j = s <;> simp [h]
  have e2 : x - 1 = sm_cb x s ||| (((1 : Int32) <<< (nI s &&& 31)) - 1) := by
    rw [← sm_addor]
    · have h : sm_cb x s + (((1 : Int32) <<< (nI s &&& 31)) - 1) = sm_cb x s + ((1 : Int32) <<< (nI s &&& 31)) - 1 := by
        rw [Int32.sub_eq_add_neg, Int32.sub_eq_add_neg, Int32.add_assoc]
      rw [h, ← e1]
    · apply sm_z
      intro j hj
      rw [b_and, sm_cbb x hs hj, sm_bm1 s hs j hj]
      by_cases h : j < s
      · rw [hl j h]; simp
      · simp [h]
  rw [b_and, e2, b_or, sm_cbb x hs hi, sm_bm1 s hs i hi]
  by_cases h : i < s
  · rw [hl i h]; simp
  · simp only [h, decide_false, Bool.or_false]
    cases bt x i <;> simp
theorem sm_bitI (x : Int32) {i : Nat} (hi : i < 32) : (((x.toUInt32 >>> ((nI i).toUInt32 &&& Int32.toUInt32 31)).toInt32) &&& 1) = 0 ↔ bt x i = false := by
  constructor
  · intro h
    have h2 : bt (((x.toUInt32 >>> ((nI i).toUInt32 &&& Int32.toUInt32 31)).toInt32) &&& 1) 0 = false := by rw [h]; exact b_0 0
    rw [b_and, b_ushr i hi, sm_bt1 0 (by omega)] at h2
    simpa using h2
  · intro h
    apply sm_z
    intro j hj
    rw [b_and, b_ushr i hi, sm_bt1 j hj]
    cases j with
    | zero => rw [Nat.add_zero, h]; rfl
    | succ j => simp
def sm_bi (b : Bool) : Int32 := if b = true then 1 else 0
theorem sm_bi0 (b : Bool) : sm_bi b = 0 ↔ b = false := by cases b <;> decide
/-! has -/
theorem sm_hB {A B : Prop} {x : Int32} {i : Nat} {u : SX} (hi : i < 32) (f : bt x i = false → A) (g : bt x i = true → B) : wpX_has (fun r => (r = 0 → A) ∧ (¬ r = 0 → B)) u x (nI i) := by
  obtain ⟨a1, a2, a3, a4, a5, a6, a7, a8, a9, a10, a11, a12, a13, a14, a15, a16, a17, a18, a19, a20, a21⟩ := u
  refine br_c (fun hc => ?_) (fun hc => ?_)
  · exact br_t rfl (f ((sm_bitI x hi).mp hc))
  · exact br_f (by decide) (g (by
      cases e : bt x i
      · exact absurd ((sm_bitI x hi).mpr e) hc
      · rfl))
theorem sm_hT {A B : Prop} {x : Int32} {i : Nat} {u : SX} (hi : i < 32) (h : bt x i = true) (g : B) : wpX_has (fun r => (r = 0 → A) ∧ (¬ r = 0 → B)) u x (nI i) := sm_hB hi (fun e => by rw [h] at e; exact absurd e (by decide)) (fun _ => g)
theorem sm_hF {A B : Prop} {x : Int32} {i : Nat} {u : SX} (hi : i < 32) (h : bt x i = false) (g : A) : wpX_has (fun r => (r = 0 → A) ∧ (¬ r = 0 → B)) u x (nI i) := sm_hB hi (fun _ => g) (fun e => by rw [h] at e; exact absurd e (by decide))
/-! lowest -/
def sm_wd (k : Nat) : Int32 := match k with
  | 0 => 0
  | k + 1 => nI (2 ^ k)
theorem sm_wd1 : ∀ k, k < 5 → sm_wd (k + 1) >>> ((1 : Int32) &&& 31) = sm_wd k := by decide +kernel
theorem sm_wd2 : ∀ k, k < 5 → ∀ i, i < 32 → bt (((1 : Int32) <<< (sm_wd (k + 1) &&& 31)) - 1) i = decide (i < 2 ^ k) := by decide +kernel
theorem sm_wd3 : ∀ k, k < 5 → ¬ sm_wd (k + 1) ≤ 0 := by decide +kernel
theorem sm_low_g (a1 a2 a3 a4 a5 a6 a7 : Int32) (a8 a9 a10 a11 a12 a13 a14 a15 a16 a17 a18 a19 a20 a21 : Nat → Int32) {post : Int32 → Prop} {x : Int32} (hp : ∀ i, i < 32 → bt x i = true → (∀ j, j < i → bt x j = false) → post (nI i)) :
    ∀ k, k ≤ 5 → ∀ (y : Int32) (idx : Nat), idx + 2 ^ k ≤ 32 → (∀ i, bt y i = bt x (idx + i)) → (∀ j, j < idx → bt x j = false) → (∃ i, i < 2 ^ k ∧ bt y i = true) →
    wX_lowest_8 post a1 a2 a3 a4 a5 a6 a7 a8 a9 a10 a11 a12 a13 a14 a15 a16 a17 a18 a19 a20 a21 (k + 1) y (nI idx) (sm_wd k) := by
  intro k
  induction k with
  | zero =>
    intro _ y idx hx hy hl he
    obtain ⟨i, hi, hb⟩ := he
    have i0 : i = 0 := by simpa using hi
    subst i0
    rw [hy] at hb
    exact br_t (show (0 : Int32) ≤ 0 by decide) (hp idx (by omega) hb hl)
  | succ k ih =>
    intro hk y idx hx hy hl he
    have hk5 : k < 5 := by omega
    have hpw : 2 ^ (k + 1) = 2 ^ k + 2 ^ k := by rw [Nat.pow_succ]; omega
    have hk16 : 2 ^ k ≤ 16 := (Nat.pow_le_pow_right (n := 2) (j := 4) (by decide) (by omega) : 2 ^ k ≤ 2 ^ 4)
    refine br_f (sm_wd3 k hk5) (br_c (fun hz => ?_) (fun hz => ?_))
    · have hz2 : ∀ i, i < 2 ^ k → bt y i = false := by
        intro i hi
        have h : bt (y &&& (((1 : Int32) <<< (sm_wd (k + 1) &&& 31)) - 1)) i = false := by rw [hz, b_0]
        rw [b_and, sm_wd2 k hk5 i (by omega), decide_eq_true hi, Bool.and_true] at h
        exact h
      refine nm_r (e' := nI (idx + 2 ^ k)) (nI_add _ _) (nm_e (nm_r (sm_wd1 k hk5) ?_))
      have e3 : sm_wd (k + 1) = nI (2 ^ k) := rfl
      refine ih (by omega) _ _ (by omega) ?_ ?_ ?_
      · intro i
        rw [e3, b_ushr _ (by omega), hy, Nat.add_assoc]
      · intro j hj
        by_cases h : j < idx
        · exact hl j h
        · have := hz2 (j - idx) (by omega)
          rw [hy, show idx + (j - idx) = j by omega] at this
          exact this
      · obtain ⟨i, hi, hb⟩ := he
        have hge : ¬ i < 2 ^ k := fun h => by rw [hz2 i h] at hb; exact absurd hb (by decide)
        refine ⟨i - 2 ^ k, by omega, ?_⟩
        rw [e3, b_ushr _ (by omega), show 2 ^ k + (i - 2 ^ k) = i by omega]
        exact hb
    · refine nm_r (sm_wd1 k hk5) (ih (by omega) y idx (by omega) hy hl ?_)
      apply Classical.byContradiction
      intro n
      apply hz
      apply sm_z
      intro i hi
      rw [b_and, sm_wd2 k hk5 i hi]
      by_cases h : i < 2 ^ k
      · cases e : bt y i
        · rfl
        · exact absurd ⟨i, h, e⟩ n
      · rw [decide_eq_false h, Bool.and_false]
theorem sm_low {x : Int32} (hx : ¬ x = 0) : ∃ s, s < 32 ∧ bt x s = true ∧ (∀ j, j < s → bt x j = false) ∧ ∀ (post : Int32 → Prop) (u : SX), post (nI s) → wpX_lowest post u x := by
  obtain ⟨s, ⟨h1, h2⟩, h3⟩ := pk_least (fun i => i < 32 ∧ bt x i = true) (sm_nz hx)
  have h4 : ∀ j, j < s → bt x j = false := by
    intro j hj
    cases e : bt x j
    · rfl
    · exact absurd ⟨by omega, e⟩ (h3 j hj)
  refine ⟨s, h1, h2, h4, fun post u hp => ?_⟩
  obtain ⟨a1, a2, a3, a4, a5, a6, a7, a8, a9, a10, a11, a12, a13, a14, a15, a16, a17, a18, a19, a20, a21⟩ := u
  exact ⟨6, sm_low_g a1 a2 a3 a4 a5 a6 a7 a8 a9 a10 a11 a12 a13 a14 a15 a16 a17 a18 a19 a20 a21 (fun i hi hb hl => by
    rcases Nat.lt_trichotomy i s with h | h | h
    · rw [h4 i h] at hb; exact absurd hb (by decide)
    · rw [h]; exact hp
    · rw [hl s h] at h2; exact absurd h2 (by decide)) 5 (by omega) x 0 (by decide) (fun i => by rw [Nat.zero_add]) (fun j hj => absurd hj (by omega)) ⟨s, h1, h2⟩⟩
/-! nextAfter -/
def sm_cy (x : Int32) (t m : Nat) : Prop := m < 32 ∧ bt x m = true ∧ ((t < m ∧ ∀ j, t < j → j < m → bt x j = false) ∨ (m ≤ t ∧ (∀ j, t < j → j < 32 → bt x j = false) ∧ ∀ j, j < m → bt x j = false))
theorem sm_next {x : Int32} {t : Nat} (hx : ¬ x = 0) (ht : t < 32) : ∃ m, sm_cy x t m ∧ ∀ (post : Int32 → Prop) (u : SX), post (nI m) → wpX_nextAfter post u x (nI t) := by
  have hb : ∀ i, i < 32 → bt (x &&& ((-2 : Int32) <<< (nI t &&& 31))) i = (bt x i && decide (t < i)) := by
    intro i hi
    rw [b_and, b_shl t ht _ hi, sm_bt2 _ (by omega)]
    by_cases h : t < i
    · rw [decide_eq_true h, decide_eq_true (show t ≤ i by omega), decide_eq_true (show 1 ≤ i - t by omega)]; simp
    · rw [decide_eq_false h, decide_eq_false (show ¬ 1 ≤ i - t by omega)]; simp
  by_cases hz : x &&& ((-2 : Int32) <<< (nI t &&& 31)) = 0
  · obtain ⟨m, h1, h2, h3, h4⟩ := sm_low hx
    have hn : ∀ j, t < j → j < 32 → bt x j = false := by
      intro j hj hj2
      have := hb j hj2
      rw [hz, b_0, decide_eq_true hj, Bool.and_true] at this
      exact this.symm
    refine ⟨m, ⟨h1, h2, Or.inr ⟨?_, hn, h3⟩⟩, fun post u hp => ?_⟩
    · rcases Nat.lt_or_ge t m with h | h
      · rw [hn m h h1] at h2; exact absurd h2 (by decide)
      · exact h
    · obtain ⟨a1, a2, a3, a4, a5, a6, a7, a8, a9, a10, a11, a12, a13, a14, a15, a16, a17, a18, a19, a20, a21⟩ := u
      exact nm_e (br_t hz (h4 _ _ hp))
  · obtain ⟨m, h1, h2, h3, h4⟩ := sm_low hz
    rw [hb m h1, Bool.and_eq_true, decide_eq_true_eq] at h2
    refine ⟨m, ⟨h1, h2.1, Or.inl ⟨h2.2, fun j hj hj2 => ?_⟩⟩, fun post u hp => ?_⟩
    · have := h3 j hj2
      rw [hb j (by omega), decide_eq_true hj, Bool.and_true] at this
      exact this
    · obtain ⟨a1, a2, a3, a4, a5, a6, a7, a8, a9, a10, a11, a12, a13, a14, a15, a16, a17, a18, a19, a20, a21⟩ := u
      exact nm_e (br_f hz (h4 _ _ hp))
end
end
section
section
/-! the relations -/
def sm_C (N S B T : Nat) : Prop := 2 ≤ N ∧ N ≤ 8 ∧ 8 ≤ S ∧ S ≤ 24 ∧ 1 ≤ B ∧ B ≤ 6 ∧ 2 ≤ T ∧ T ≤ 20
def sm_A (N : Nat) (all : Int32) : Prop := ∀ i, i < 32 → bt all i = decide (i < N)
def sm_U (N : Nat) (up : Int32) (yu : Nat → Int32) : Prop := ∀ a, a < N → yu a = sm_bi (bt up a)
def sm_V (N : Nat) (R : Nat → Nat) (al de : Nat → Int32) : Prop := (∀ k, R k ≤ 29) ∧ ∀ a, a < N → ∀ i, i < 32 → bt (al a) i = decide (i < N ∧ R (8 * a + i) % 3 = 0) ∧ bt (de a) i = decide (i < N ∧ R (8 * a + i) % 3 = 2)
def sm_B (N B : Nat) (Bu : Nat → Nat) (nw : Nat → Int32) : Prop := (∀ k, Bu k ≤ B) ∧ ∀ a, a < N → ∀ l, l < 8 → ∀ i, i < 32 → bt (nw (8 * a + l)) i = decide (i < N ∧ Bu (8 * a + i) = l)
def sm_X (N : Nat) (du wh dt : Nat → Int32) : Prop := (∀ a, a < N → ∀ t, t < 32 → ∀ i, i < 32 → bt (wh (32 * a + t)) i = decide (i < N ∧ du (8 * a + i) = nI t)) ∧ ∀ a, a < N → ∀ t, t < 32 → bt (dt a) t = decide (¬ wh (32 * a + t) = 0)
def sm_D (x : Int32) : Prop := x = -1 ∨ ∃ t, t < 32 ∧ x = nI t
def sm_K1 (T c l r : Nat) (d : Int32) : Prop := (l = 0 ∧ d = -1) ∨ (1 ≤ l ∧ l ≤ T ∧ r % 3 = 1 ∧ d = nI ((c + l) % 32))
def sm_K (N T : Nat) (R L : Nat → Nat) (du : Nat → Int32) (cf : Nat → Nat → Nat) : Prop := ∀ a, a < N → ∀ m, m < N → sm_K1 T (cf a m) (L (8 * a + m)) (R (8 * a + m)) (du (8 * a + m))
def sm_CK (N : Nat) (C : Nat → Nat) : Prop := ∀ a, a < N → C a < 32
def sm_P (N : Nat) (Lt Nu : Nat → Nat) (ag : Nat → Int32) : Prop := ∀ a, a < N → Lt a < N ∧ Nu a < 64 ∧ (ag a = -1 ∨ ∃ g, g ≤ 4 ∧ ag a = nI g)
def sm_e3 (q : Nat → Nat) : Nat := q 0 + 256 * q 1 + 65536 * q 2
def sm_Q (N c : Nat) (q : Nat → Nat) (b : Nat → Int32) : Prop := c ≤ 3 ∧ ∀ i, i < 3 → (i < c → q i / 32 < N ∧ q i % 32 ≤ 29 ∧ b i = nI (q i)) ∧ (c ≤ i → q i = 0 ∧ b i = -1)
def sm_H (N kd fo to og su nu : Nat) : Prop := 1 ≤ kd ∧ kd ≤ 3 ∧ fo < N ∧ to < N ∧ og < N ∧ su < N ∧ nu < 64
def sm_eh (kd fo to og su nu : Nat) : Nat := kd + 8 * fo + 64 * to + 512 * og + 4096 * su + 32768 * nu
def sm_W6 (kd fo to og su nu : Nat) (b : Nat → Int32) : Prop := b 0 = nI kd ∧ b 1 = nI fo ∧ b 2 = nI to ∧ b 3 = nI og ∧ b 4 = nI su ∧ b 5 = nI nu
def sm_W (N : Nat) (h l : Int32) (b : Nat → Int32) : Prop := ∃ (kd fo to og su nu c : Nat) (q : Nat → Nat), sm_H N kd fo to og su nu ∧ sm_W6 kd fo to og su nu b ∧ b 6 = nI c ∧ sm_Q N c q (fun i => b (7 + i)) ∧ h = nI (sm_eh kd fo to og su nu) ∧ l = nI (sm_e3 q + 16777216 * c)
def sm_M (N S : Nat) (fr : Int32) (hd ls bx : Nat → Int32) : Prop := (∀ i, i < 32 → bt fr i = true → i < S) ∧ ∀ s, s < S → bt fr s = decide (bx (10 * s) = 0) ∧ (¬ bx (10 * s) = 0 → sm_W N (hd s) (ls s) (fun j => bx (10 * s + j)))
theorem sm_K1D {T c l r : Nat} {d : Int32} (h : sm_K1 T c l r d) : sm_D d := by
  rcases h with ⟨_, h⟩ | ⟨_, _, _, h⟩
  · exact Or.inl h
  · exact Or.inr ⟨_, Nat.mod_lt _ (by omega), h⟩
/-! one bit of one cell -/
theorem sm_cbu {f : Nat → Int32} {k m j i : Nat} (hm : m < 32) (hi : i < 32) : bt (upd f k (sm_cb (f k) m) j) i = (bt (f j) i && !decide (j = k ∧ i = m)) := by
  by_cases h : j = k
  · subst h
    rw [pk_us, sm_cbb _ hm hi]
    simp
  · rw [pk_un h]
    simp [h]
theorem sm_obu {f : Nat → Int32} {k m j i : Nat} (hm : m < 32) (hi : i < 32) : bt (upd f k (sm_ob (f k) m) j) i = (bt (f j) i || decide (j = k ∧ i = m)) := by
  by_cases h : j = k
  · subst h
    rw [pk_us, sm_obb _ hm hi]
    simp
  · rw [pk_un h]
    simp [h]
theorem sm_beq {b c : Bool} (h : b = true ↔ c = true) : b = c := Bool.eq_iff_iff.mpr h
/-! setBudget -/
def sm_sb (Bu : Nat → Nat) (nw : Nat → Int32) (a m v : Nat) : Nat → Int32 := upd (upd nw (8 * a + Bu (8 * a + m)) (sm_cb (nw (8 * a + Bu (8 * a + m))) m)) (8 * a + v) (sm_ob (upd nw (8 * a + Bu (8 * a + m)) (sm_cb (nw (8 * a + Bu (8 * a + m))) m) (8 * a + v)) m)
theorem sm_sbB {N B a m v : Nat} {Bu : Nat → Nat} {nw : Nat → Int32} (h : sm_B N B Bu nw) (hN : N ≤ 8) (hB : B ≤ 6) (ha : a < N) (hm : m < N) (hv : v ≤ B) : sm_B N B (sm_un Bu (8 * a + m) v) (sm_sb Bu nw a m v) := by
  obtain ⟨h1, h2⟩ := h
  have ho := h1 (8 * a + m)
  refine ⟨fun k => ?_, fun a' ha' l hl i hi => ?_⟩
  · by_cases e : k = 8 * a + m
    · rw [e, sm_us]; exact hv
    · rw [sm_uo e]; exact h1 k
  · unfold sm_sb
    rw [sm_obu (by omega) hi, sm_cbu (by omega) hi, h2 a' ha' l hl i hi]
    apply sm_beq
    simp only [Bool.and_eq_true, Bool.or_eq_true, Bool.not_eq_true', decide_eq_true_eq, decide_eq_false_iff_not]
    by_cases e : 8 * a' + i = 8 * a + m
    · rw [e, sm_us]
      omega
    · rw [sm_uo e]
      omega
theorem sm_xsb {N S B T : Nat} {all up fr : Int32} {R Bu C Lt Nu : Nat → Nat} {du nw al de wh dt ag xh xl : Nat → Int32} {a m v : Nat} {post : SX → Prop} (ha : a < 8) (hm : m < 8) (hv : v < 8) (hb : Bu (8 * a + m) < 8) (hp : post (nI N, nI S, nI B, nI T, all, up, fr, sm_vn R, sm_vn (sm_un Bu (8 * a + m) v), du, sm_sb Bu nw a m v, al, de, sm_vn C, wh, dt, sm_vn Lt, ag, sm_vn Nu, xh, xl)) : wpX_setBudget post (nI N, nI S, nI B, nI T, all, up, fr, sm_vn R, sm_vn Bu, du, nw, al, de, sm_vn C, wh, dt, sm_vn Lt, ag, sm_vn Nu, xh, xl) (nI a) (nI m) (nI v) := by
  simp (disch := omega) only [wpX_setBudget, sm_ix8, sm_cl, sm_va, sm_inT, sm_vu, true_and, forall_eq]
  exact hp
/-! the status sets -/
theorem sm_V0 {N a m r : Nat} {R : Nat → Nat} {al de : Nat → Int32} (h : sm_V N R al de) (hN : N ≤ 8) (ha : a < N) (hm : m < N) (hr : r ≤ 29) (hs : r % 3 = 0) : sm_V N (sm_un R (8 * a + m) r) (upd (upd al a (sm_cb (al a) m)) a (sm_ob (upd al a (sm_cb (al a) m) a) m)) (upd de a (sm_cb (de a) m)) := by
  obtain ⟨h1, h2⟩ := h
  refine ⟨fun k => ?_, fun a' ha' i hi => ?_⟩
  · by_cases e : k = 8 * a + m
    · rw [e, sm_us]; exact hr
    · rw [sm_uo e]; exact h1 k
  · rw [sm_obu (by omega) hi, sm_cbu (by omega) hi, sm_cbu (by omega) hi, (h2 a' ha' i hi).1, (h2 a' ha' i hi).2]
    constructor <;> apply sm_beq <;>
    simp only [Bool.and_eq_true, Bool.or_eq_true, Bool.not_eq_true', decide_eq_true_eq, decide_eq_false_iff_not] <;>
    by_cases e : 8 * a' + i = 8 * a + m
    · rw [e, sm_us]; omega
    · rw [sm_uo e]; omega
    · rw [e, sm_us]; omega
    · rw [sm_uo e]; omega
theorem sm_V2 {N a m r : Nat} {R : Nat → Nat} {al de : Nat → Int32} (h : sm_V N R al de) (hN : N ≤ 8) (ha : a < N) (hm : m < N) (hr : r ≤ 29) (hs : r % 3 = 2) : sm_V N (sm_un R (8 * a + m) r) (upd al a (sm_cb (al a) m)) (upd (upd de a (sm_cb (de a) m)) a (sm_ob (upd de a (sm_cb (de a) m) a) m)) := by
  obtain ⟨h1, h2⟩ := h
  refine ⟨fun k => ?_, fun a' ha' i hi => ?_⟩
  · by_cases e : k = 8 * a + m
    · rw [e, sm_us]; exact hr
    · rw [sm_uo e]; exact h1 k
  · rw [sm_obu (by omega) hi, sm_cbu (by omega) hi, sm_cbu (by omega) hi, (h2 a' ha' i hi).1, (h2 a' ha' i hi).2]
    constructor <;> apply sm_beq <;>
    simp only [Bool.and_eq_true, Bool.or_eq_true, Bool.not_eq_true', decide_eq_true_eq, decide_eq_false_iff_not] <;>
    by_cases e : 8 * a' + i = 8 * a + m
    · rw [e, sm_us]; omega
    · rw [sm_uo e]; omega
    · rw [e, sm_us]; omega
    · rw [sm_uo e]; omega
theorem sm_V1 {N a m r : Nat} {R : Nat → Nat} {al de : Nat → Int32} (h : sm_V N R al de) (hN : N ≤ 8) (ha : a < N) (hm : m < N) (hr : r ≤ 29) (hs : r % 3 = 1) : sm_V N (sm_un R (8 * a + m) r) (upd al a (sm_cb (al a) m)) (upd de a (sm_cb (de a) m)) := by
  obtain ⟨h1, h2⟩ := h
  refine ⟨fun k => ?_, fun a' ha' i hi => ?_⟩
  · by_cases e : k = 8 * a + m
    · rw [e, sm_us]; exact hr
    · rw [sm_uo e]; exact h1 k
  · rw [sm_cbu (by omega) hi, sm_cbu (by omega) hi, (h2 a' ha' i hi).1, (h2 a' ha' i hi).2]
    constructor <;> apply sm_beq <;>
    simp only [Bool.and_eq_true, Bool.or_eq_true, Bool.not_eq_true', decide_eq_true_eq, decide_eq_false_iff_not] <;>
    by_cases e : 8 * a' + i = 8 * a + m
    · rw [e, sm_us]; omega
    · rw [sm_uo e]; omega
    · rw [e, sm_us]; omega
    · rw [sm_uo e]; omega
/-! the timers -/
theorem sm_ih {a a' m i : Nat} (h : 8 * a' + i = 8 * a + m) (hi : i < 8) (hm : m < 8) : a' = a ∧ i = m := by omega
theorem sm_it {a a' t t' : Nat} (h : 32 * a' + t' = 32 * a + t) (ht : t < 32) (ht' : t' < 32) : a' = a ∧ t' = t := by omega
theorem sm_nz1 {x : Int32} {i : Nat} (h : bt x i = true) : ¬ x = 0 := fun e => by rw [e, b_0] at h; exact absurd h (by decide)
theorem sm_X1 {N a m t : Nat} {du wh dt : Nat → Int32} (h : sm_X N du wh dt) (hN : N ≤ 8) (ha : a < N) (hm : m < N) (ht : t < 32) (hd : du (8 * a + m) = nI t) (a' : Nat) (ha' : a' < N) (t' : Nat) (ht' : t' < 32) (i : Nat) (hi : i < 32) : bt (upd wh (32 * a + t) (sm_cb (wh (32 * a + t)) m) (32 * a' + t')) i = decide (i < N ∧ upd du (8 * a + m) (-1) (8 * a' + i) = nI t') := by
  rw [sm_cbu (by omega) hi, h.1 a' ha' t' ht' i hi]
  apply sm_beq
  simp only [Bool.and_eq_true, Bool.not_eq_true', decide_eq_true_eq, decide_eq_false_iff_not]
  by_cases e : i < N ∧ 8 * a' + i = 8 * a + m
  · obtain ⟨e1, e2⟩ := e
    obtain ⟨rfl, rfl⟩ := sm_ih e2 (by omega) (by omega)
    rw [pk_us, hd]
    constructor
    · rintro ⟨⟨_, h2⟩, h3⟩
      have := sm_ei h2 (by omega) (by omega)
      exact absurd ⟨by omega, rfl⟩ h3
    · rintro ⟨_, h2⟩
      exact absurd h2 (sm_m1n (by omega))
  · constructor
    · rintro ⟨⟨h1, h2⟩, _⟩
      exact ⟨h1, by rw [pk_un (fun z => e ⟨h1, z⟩)]; exact h2⟩
    · rintro ⟨h1, h2⟩
      rw [pk_un (fun z => e ⟨h1, z⟩)] at h2
      refine ⟨⟨h1, h2⟩, ?_⟩
      rintro ⟨h3, h4⟩
      have := sm_it h3 (by omega) (by omega)
      exact e ⟨h1, by omega⟩
theorem sm_Xa {N a m t : Nat} {du wh dt : Nat → Int32} (h : sm_X N du wh dt) (hN : N ≤ 8) (ha : a < N) (hm : m < N) (ht : t < 32) (hd : du (8 * a + m) = nI t) (hz : sm_cb (wh (32 * a + t)) m = 0) : sm_X N (upd du (8 * a + m) (-1)) (upd wh (32 * a + t) (sm_cb (wh (32 * a + t)) m)) (upd dt a (sm_cb (dt a) t)) := by
  refine ⟨sm_X1 h hN ha hm ht hd, fun a' ha' t' ht' => ?_⟩
  rw [sm_cbu ht ht', h.2 a' ha' t' ht']
  by_cases e : 32 * a' + t' = 32 * a + t
  · obtain ⟨rfl, rfl⟩ := sm_it e ht ht'
    rw [pk_us, hz]
    simp
  · rw [pk_un e]
    have : ¬ (a' = a ∧ t' = t) := by omega
    simp [this]
theorem sm_Xb {N a m t : Nat} {du wh dt : Nat → Int32} (h : sm_X N du wh dt) (hN : N ≤ 8) (ha : a < N) (hm : m < N) (ht : t < 32) (hd : du (8 * a + m) = nI t) (hz : ¬ sm_cb (wh (32 * a + t)) m = 0) : sm_X N (upd du (8 * a + m) (-1)) (upd wh (32 * a + t) (sm_cb (wh (32 * a + t)) m)) dt := by
  refine ⟨sm_X1 h hN ha hm ht hd, fun a' ha' t' ht' => ?_⟩
  rw [h.2 a' ha' t' ht']
  by_cases e : 32 * a' + t' = 32 * a + t
  · obtain ⟨rfl, rfl⟩ := sm_it e ht ht'
    have hw : ¬ wh (32 * a' + t') = 0 := sm_nz1 (i := m) (by rw [h.1 a' ha t' ht m (by omega), decide_eq_true ⟨hm, hd⟩])
    rw [pk_us, decide_eq_true hw, decide_eq_true hz]
  · rw [pk_un e]
theorem sm_Xc {N a m t : Nat} {du wh dt : Nat → Int32} (h : sm_X N du wh dt) (hN : N ≤ 8) (ha : a < N) (hm : m < N) (ht : t < 32) (hd : du (8 * a + m) = -1) : sm_X N (upd du (8 * a + m) (nI t)) (upd wh (32 * a + t) (sm_ob (wh (32 * a + t)) m)) (upd dt a (sm_ob (dt a) t)) := by
  refine ⟨fun a' ha' t' ht' i hi => ?_, fun a' ha' t' ht' => ?_⟩
  · rw [sm_obu (by omega) hi, h.1 a' ha' t' ht' i hi]
    apply sm_beq
    simp only [Bool.or_eq_true, decide_eq_true_eq]
    by_cases e : i < N ∧ 8 * a' + i = 8 * a + m
    · obtain ⟨e1, e2⟩ := e
      obtain ⟨rfl, rfl⟩ := sm_ih e2 (by omega) (by omega)
      rw [pk_us, hd]
      constructor
      · rintro (⟨_, h2⟩ | ⟨h2, _⟩)
        · exact absurd h2 (sm_m1n (by omega))
        · exact ⟨e1, by rw [show t' = t by omega]⟩
      · rintro ⟨_, h2⟩
        have := sm_ei h2 (by omega) (by omega)
        exact Or.inr ⟨by omega, rfl⟩
    · constructor
      · rintro (⟨h1, h2⟩ | ⟨h2, h3⟩)
        · exact ⟨h1, by rw [pk_un (fun z => e ⟨h1, z⟩)]; exact h2⟩
        · have := sm_it h2 (by omega) (by omega)
          exact absurd ⟨by omega, by omega⟩ e
      · rintro ⟨h1, h2⟩
        rw [pk_un (fun z => e ⟨h1, z⟩)] at h2
        exact Or.inl ⟨h1, h2⟩
  · rw [sm_obu ht ht', h.2 a' ha' t' ht']
    by_cases e : 32 * a' + t' = 32 * a + t
    · obtain ⟨rfl, rfl⟩ := sm_it e ht ht'
      have hw : ¬ sm_ob (wh (32 * a' + t')) m = 0 := sm_nz1 (i := m) (by rw [sm_obb _ (by omega) (by omega)]; simp)
      rw [pk_us, decide_eq_true hw]
      simp
    · rw [pk_un e]
      have : ¬ (a' = a ∧ t' = t) := by omega
      simp [this]
end
end
section
section
/-! the timers' walks -/
theorem sm_xst_n {N S B T : Nat} {all up fr : Int32} {R Bu C Lt Nu : Nat → Nat} {du nw al de wh dt ag xh xl : Nat → Int32} {a m : Nat} {post : SX → Prop} (ha : a < 8) (hm : m < 8) (hd : du (8 * a + m) = -1) (hp : post (nI N, nI S, nI B, nI T, all, up, fr, sm_vn R, sm_vn Bu, du, nw, al, de, sm_vn C, wh, dt, sm_vn Lt, ag, sm_vn Nu, xh, xl)) : wpX_stopTimer post (nI N, nI S, nI B, nI T, all, up, fr, sm_vn R, sm_vn Bu, du, nw, al, de, sm_vn C, wh, dt, sm_vn Lt, ag, sm_vn Nu, xh, xl) (nI a) (nI m) := by
  simp (disch := omega) only [wpX_stopTimer, sm_ix8, sm_cl, hd, sm_inT, true_and, forall_eq]
  exact br_f (by decide) hp
theorem sm_xst_0 {N S B T : Nat} {all up fr : Int32} {R Bu C Lt Nu : Nat → Nat} {du nw al de wh dt ag xh xl : Nat → Int32} {a m t : Nat} {post : SX → Prop} (ha : a < 8) (hm : m < 8) (ht : t < 32) (hd : du (8 * a + m) = nI t) (hz : sm_cb (wh (32 * a + t)) m = 0) (hp : post (nI N, nI S, nI B, nI T, all, up, fr, sm_vn R, sm_vn Bu, upd du (8 * a + m) (-1), nw, al, de, sm_vn C, upd wh (32 * a + t) (sm_cb (wh (32 * a + t)) m), upd dt a (sm_cb (dt a) t), sm_vn Lt, ag, sm_vn Nu, xh, xl)) : wpX_stopTimer post (nI N, nI S, nI B, nI T, all, up, fr, sm_vn R, sm_vn Bu, du, nw, al, de, sm_vn C, wh, dt, sm_vn Lt, ag, sm_vn Nu, xh, xl) (nI a) (nI m) := by
  simp (disch := omega) only [wpX_stopTimer, wX_stopTimer_64, sm_ix8, sm_ix32, sm_cl, hd, sm_inT, true_and, forall_eq, pk_us]
  exact br_t (nI_pos' (by omega)) (br_t hz hp)
theorem sm_xst_1 {N S B T : Nat} {all up fr : Int32} {R Bu C Lt Nu : Nat → Nat} {du nw al de wh dt ag xh xl : Nat → Int32} {a m t : Nat} {post : SX → Prop} (ha : a < 8) (hm : m < 8) (ht : t < 32) (hd : du (8 * a + m) = nI t) (hz : ¬ sm_cb (wh (32 * a + t)) m = 0) (hp : post (nI N, nI S, nI B, nI T, all, up, fr, sm_vn R, sm_vn Bu, upd du (8 * a + m) (-1), nw, al, de, sm_vn C, upd wh (32 * a + t) (sm_cb (wh (32 * a + t)) m), dt, sm_vn Lt, ag, sm_vn Nu, xh, xl)) : wpX_stopTimer post (nI N, nI S, nI B, nI T, all, up, fr, sm_vn R, sm_vn Bu, du, nw, al, de, sm_vn C, wh, dt, sm_vn Lt, ag, sm_vn Nu, xh, xl) (nI a) (nI m) := by
  simp (disch := omega) only [wpX_stopTimer, wX_stopTimer_64, sm_ix8, sm_ix32, sm_cl, hd, sm_inT, true_and, forall_eq, pk_us]
  exact br_t (nI_pos' (by omega)) (br_f hz hp)
theorem sm_xsta {N S B T : Nat} {all up fr : Int32} {R Bu C Lt Nu : Nat → Nat} {du nw al de wh dt ag xh xl : Nat → Int32} {a m : Nat} {post : SX → Prop} (ha : a < 8) (hm : m < 8) (hc : C a < 32) (hT : T ≤ 20) (hp : post (nI N, nI S, nI B, nI T, all, up, fr, sm_vn R, sm_vn Bu, upd du (8 * a + m) (nI ((C a + T) % 32)), nw, al, de, sm_vn C, upd wh (32 * a + (C a + T) % 32) (sm_ob (wh (32 * a + (C a + T) % 32)) m), upd dt a (sm_ob (dt a) ((C a + T) % 32)), sm_vn Lt, ag, sm_vn Nu, xh, xl)) : wpX_startTimer post (nI N, nI S, nI B, nI T, all, up, fr, sm_vn R, sm_vn Bu, du, nw, al, de, sm_vn C, wh, dt, sm_vn Lt, ag, sm_vn Nu, xh, xl) (nI a) (nI m) := by
  have ht : (C a + T) % 32 < 32 := Nat.mod_lt _ (by omega)
  refine And.intro (sm_in (by omega) (by omega)) (nm_r (e' := nI ((C a + T) % 32)) (by rw [sm_cl (by omega), sm_va, nI_add, sm_m31 (by omega)]) ?_)
  generalize (C a + T) % 32 = t at ht hp ⊢
  simp (disch := omega) only [sm_ix8, sm_ix32, sm_cl, sm_inT, true_and, forall_eq]
  exact hp
theorem sm_xst {N a m : Nat} {du wh dt : Nat → Int32} (hX : sm_X N du wh dt) (hD : sm_D (du (8 * a + m))) (hN : N ≤ 8) (ha : a < N) (hm : m < N) : ∃ wh' dt', sm_X N (upd du (8 * a + m) (-1)) wh' dt' ∧ ∀ {post : SX → Prop} {S B T : Nat} {all up fr : Int32} {R Bu C Lt Nu : Nat → Nat} {nw al de ag xh xl : Nat → Int32}, post (nI N, nI S, nI B, nI T, all, up, fr, sm_vn R, sm_vn Bu, upd du (8 * a + m) (-1), nw, al, de, sm_vn C, wh', dt', sm_vn Lt, ag, sm_vn Nu, xh, xl) → wpX_stopTimer post (nI N, nI S, nI B, nI T, all, up, fr, sm_vn R, sm_vn Bu, du, nw, al, de, sm_vn C, wh, dt, sm_vn Lt, ag, sm_vn Nu, xh, xl) (nI a) (nI m) := by
  rcases hD with h | ⟨t, ht, h⟩
  · refine ⟨wh, dt, by rw [sm_uid h]; exact hX, ?_⟩
    intro post S B T all up fr R Bu C Lt Nu nw al de ag xh xl hp
    rw [sm_uid h] at hp
    exact sm_xst_n (by omega) (by omega) h hp
  · by_cases hz : sm_cb (wh (32 * a + t)) m = 0
    · refine ⟨_, _, sm_Xa hX hN ha hm ht h hz, ?_⟩
      intro post S B T all up fr R Bu C Lt Nu nw al de ag xh xl hp
      exact sm_xst_0 (by omega) (by omega) ht h hz hp
    · refine ⟨_, _, sm_Xb hX hN ha hm ht h hz, ?_⟩
      intro post S B T all up fr R Bu C Lt Nu nw al de ag xh xl hp
      exact sm_xst_1 (by omega) (by omega) ht h hz hp
/-! raise -/
def sm_nd (s a m c T : Nat) : Int32 := if s = 1 ∧ ¬ m = a then nI ((c + T) % 32) else -1
def sm_nl (s a m T : Nat) : Nat := if s = 1 ∧ ¬ m = a then T else 0
theorem sm_nK {r a m c T : Nat} (hT : 2 ≤ T) : sm_K1 T c (sm_nl (r % 3) a m T) r (sm_nd (r % 3) a m c T) := by
  unfold sm_K1 sm_nl sm_nd
  by_cases e : r % 3 = 1 ∧ ¬ m = a
  · rw [if_pos e, if_pos e]
    exact Or.inr ⟨by omega, Nat.le_refl _, e.1, rfl⟩
  · rw [if_neg e, if_neg e]
    exact Or.inl ⟨rfl, rfl⟩
theorem sm_Ku {N T a m l r : Nat} {R L : Nat → Nat} {du : Nat → Int32} {cf : Nat → Nat → Nat} {d : Int32} (h : sm_K N T R L du cf) (hN : N ≤ 8) (hm : m < N) (hn : sm_K1 T (cf a m) l r d) : sm_K N T (sm_un R (8 * a + m) r) (sm_un L (8 * a + m) l) (upd du (8 * a + m) d) cf := by
  intro a' ha' m' hm'
  by_cases e : 8 * a' + m' = 8 * a + m
  · obtain ⟨rfl, rfl⟩ := sm_ih e (by omega) (by omega)
    rw [sm_us, sm_us, pk_us]
    exact hn
  · rw [sm_uo e, sm_uo e, pk_un e]
    exact h a' ha' m' hm'
theorem sm_xr84 {N B T a m s : Nat} {Bu C : Nat → Nat} {du nw wh dt : Nat → Int32} (hB : sm_B N B Bu nw) (hX : sm_X N du wh dt) (hD : sm_D (du (8 * a + m))) (hN : N ≤ 8) (hB6 : B ≤ 6) (hT : T ≤ 20) (hc : C a < 32) (ha : a < N) (hm : m < N) (hs : s < 3) :
    ∃ nw' wh' dt', sm_B N B (sm_un Bu (8 * a + m) B) nw' ∧ sm_X N (upd du (8 * a + m) (sm_nd s a m (C a) T)) wh' dt' ∧
    ∀ {post : SX → Prop} {S : Nat} {all up fr : Int32} {R Lt Nu : Nat → Nat} {al de ag xh xl : Nat → Int32}, post (nI N, nI S, nI B, nI T, all, up, fr, sm_vn R, sm_vn (sm_un Bu (8 * a + m) B), upd du (8 * a + m) (sm_nd s a m (C a) T), nw', al, de, sm_vn C, wh', dt', sm_vn Lt, ag, sm_vn Nu, xh, xl) → wX_raise_84 post (nI a) (nI m) (nI s) (nI N) (nI S) (nI B) (nI T) all up fr (sm_vn R) (sm_vn Bu) du nw al de (sm_vn C) wh dt (sm_vn Lt) ag (sm_vn Nu) xh xl := by
  obtain ⟨wh1, dt1, hX1, hW⟩ := sm_xst hX hD hN ha hm
  have hb := hB.1 (8 * a + m)
  by_cases e : s = 1 ∧ ¬ m = a
  · have hX2 := sm_Xc hX1 hN ha hm (t := (C a + T) % 32) (Nat.mod_lt _ (by omega)) pk_us
    rw [sm_uu] at hX2
    refine ⟨_, _, _, sm_sbB hB hN hB6 ha hm (Nat.le_refl _), by rw [sm_nd, if_pos e]; exact hX2, ?_⟩
    intro post S all up fr R Lt Nu al de ag xh xl hp
    rw [sm_nd, if_pos e] at hp
    refine sm_xsb (by omega) (by omega) (by omega) (by omega) ?_
    refine hW ?_
    refine br_t (show nI s = nI 1 by rw [e.1]) (br_f (sm_ne (by omega) (by omega) e.2) ?_)
    refine sm_xsta (by omega) (by omega) hc hT ?_
    rw [sm_uu]
    exact hp
  · refine ⟨_, _, _, sm_sbB hB hN hB6 ha hm (Nat.le_refl _), by rw [sm_nd, if_neg e]; exact hX1, ?_⟩
    intro post S all up fr R Lt Nu al de ag xh xl hp
    rw [sm_nd, if_neg e] at hp
    refine sm_xsb (by omega) (by omega) (by omega) (by omega) ?_
    refine hW ?_
    by_cases e1 : s = 1
    · exact br_t (show nI s = nI 1 by rw [e1]) (br_t (show nI m = nI a by rw [show m = a from Classical.byContradiction fun z => e ⟨e1, z⟩]) hp)
    · exact br_f (show ¬ nI s = nI 1 from sm_ne (by omega) (by omega) e1) hp
theorem sm_xraise {N B T a m r : Nat} {R Bu C : Nat → Nat} {du nw wh dt al de : Nat → Int32} (hV : sm_V N R al de) (hB : sm_B N B Bu nw) (hX : sm_X N du wh dt) (hD : sm_D (du (8 * a + m))) (hN : N ≤ 8) (hB6 : B ≤ 6) (hT : T ≤ 20) (hc : C a < 32) (ha : a < N) (hm : m < N) (hr : r ≤ 29) :
    ∃ al' de' nw' wh' dt', sm_V N (sm_un R (8 * a + m) r) al' de' ∧ sm_B N B (sm_un Bu (8 * a + m) B) nw' ∧ sm_X N (upd du (8 * a + m) (sm_nd (r % 3) a m (C a) T)) wh' dt' ∧
    ∀ {post : SX → Prop} {S : Nat} {all up fr : Int32} {Lt Nu : Nat → Nat} {ag xh xl : Nat → Int32}, post (nI N, nI S, nI B, nI T, all, up, fr, sm_vn (sm_un R (8 * a + m) r), sm_vn (sm_un Bu (8 * a + m) B), upd du (8 * a + m) (sm_nd (r % 3) a m (C a) T), nw', al', de', sm_vn C, wh', dt', sm_vn Lt, ag, sm_vn Nu, xh, xl) → wpX_raise post (nI N, nI S, nI B, nI T, all, up, fr, sm_vn R, sm_vn Bu, du, nw, al, de, sm_vn C, wh, dt, sm_vn Lt, ag, sm_vn Nu, xh, xl) (nI a) (nI m) (nI r) := by
  obtain ⟨nw', wh', dt', hB', hX', hW⟩ := sm_xr84 (s := r % 3) hB hX hD hN hB6 hT hc ha hm (Nat.mod_lt _ (by omega))
  have h3 : r % 3 = 0 ∨ r % 3 = 1 ∨ r % 3 = 2 := by omega
  rcases h3 with h | h | h
  · refine ⟨_, _, nw', wh', dt', sm_V0 hV hN ha hm hr h, hB', hX', ?_⟩
    intro post S all up fr Lt Nu ag xh xl hp
    refine nm_e (And.intro sm_n3 (nm_r (sm_r3 (by omega)) ?_))
    simp (disch := omega) only [sm_ix8, sm_cl, sm_inT, true_and, forall_eq, sm_vu]
    exact br_t (show nI (r % 3) = nI 0 by rw [h]) (hW hp)
  · refine ⟨_, _, nw', wh', dt', sm_V1 hV hN ha hm hr h, hB', hX', ?_⟩
    intro post S all up fr Lt Nu ag xh xl hp
    refine nm_e (And.intro sm_n3 (nm_r (sm_r3 (by omega)) ?_))
    simp (disch := omega) only [sm_ix8, sm_cl, sm_inT, true_and, forall_eq, sm_vu]
    exact br_f (show ¬ nI (r % 3) = nI 0 by rw [h]; decide) (br_f (show ¬ nI (r % 3) = nI 2 by rw [h]; decide) (hW hp))
  · refine ⟨_, _, nw', wh', dt', sm_V2 hV hN ha hm hr h, hB', hX', ?_⟩
    intro post S all up fr Lt Nu ag xh xl hp
    refine nm_e (And.intro sm_n3 (nm_r (sm_r3 (by omega)) ?_))
    simp (disch := omega) only [sm_ix8, sm_cl, sm_inT, true_and, forall_eq, sm_vu]
    exact br_f (show ¬ nI (r % 3) = nI 0 by rw [h]; decide) (br_t (show nI (r % 3) = nI 2 by rw [h]) (hW hp))
theorem sm_yraise {N S B T : Nat} {R Bu Lt Nu L : Nat → Nat} {yu ag bx : Nat → Int32} {a m r : Nat} {post : SY → Prop} (ha : a < 8) (hm : m < 8) (hr : r ≤ 29) (hp : post (nI N, nI S, nI B, nI T, yu, sm_vn (sm_un R (8 * a + m) r), sm_vn (sm_un Bu (8 * a + m) B), sm_vn (sm_un L (8 * a + m) (sm_nl (r % 3) a m T)), sm_vn Lt, ag, sm_vn Nu, bx)) : wpY_raise post (nI N, nI S, nI B, nI T, yu, sm_vn R, sm_vn Bu, sm_vn L, sm_vn Lt, ag, sm_vn Nu, bx) (nI a) (nI m) (nI r) := by
  unfold sm_nl at hp
  by_cases e : r % 3 = 1
  · by_cases e2 : m = a
    · rw [if_neg (fun z => z.2 e2)] at hp
      simp (disch := omega) only [wpY_raise, sm_ix8, sm_cl, sm_inT, true_and, forall_eq, sm_vu, sm_r3]
      refine And.intro sm_n3 (br_t (show nI (r % 3) = nI 1 by rw [e]) (br_t (show nI m = nI a by rw [e2]) ?_))
      rw [sm_vu0]
      exact hp
    · rw [if_pos ⟨e, e2⟩] at hp
      simp (disch := omega) only [wpY_raise, sm_ix8, sm_cl, sm_inT, true_and, forall_eq, sm_vu, sm_r3]
      exact And.intro sm_n3 (br_t (show nI (r % 3) = nI 1 by rw [e]) (br_f (sm_ne (by omega) (by omega) e2) hp))
  · rw [if_neg (fun z => e z.1)] at hp
    simp (disch := omega) only [wpY_raise, sm_ix8, sm_cl, sm_inT, true_and, forall_eq, sm_vu, sm_r3]
    refine And.intro sm_n3 (br_f (show ¬ nI (r % 3) = nI 1 from sm_ne (by omega) (by omega) e) ?_)
    rw [sm_vu0]
    exact hp
end
end
section
section
/-! words -/
theorem sm_nor (a b : Nat) : nI a ||| nI b = nI (a ||| b) := by
  apply Int32.toBitVec_inj.1
  show BitVec.ofNat 32 a ||| BitVec.ofNat 32 b = BitVec.ofNat 32 (a ||| b)
  apply BitVec.eq_of_getLsbD_eq
  intro i hi
  simp [hi]
theorem sm_orN {x y k : Nat} (h : x < 2 ^ k) : nI x ||| nI (y * 2 ^ k) = nI (x + y * 2 ^ k) := by
  rw [sm_nor, Nat.or_comm, Nat.mul_comm, ← Nat.two_pow_add_eq_or_of_lt h, Nat.add_comm]
/-! the list of updates -/
def sm_tk (c : Nat) (q : Nat → Nat) (m : Nat) : Prop := ∃ i, i < c ∧ q i / 32 = m
def sm_LQ (N c : Nat) (q : Nat → Nat) : Prop := c ≤ 3 ∧ (∀ i, i < c → q i / 32 < N ∧ q i % 32 ≤ 29) ∧ ∀ i, c ≤ i → q i = 0
def sm_LB (s c : Nat) (q : Nat → Nat) (bx b0 : Nat → Int32) : Prop := bx (10 * s + 6) = nI c ∧ (∀ i, i < 3 → (i < c → bx (10 * s + 7 + i) = nI (q i)) ∧ (c ≤ i → bx (10 * s + 7 + i) = -1)) ∧ ∀ k, k < 10 * s + 6 ∨ 10 * s + 10 ≤ k → bx k = b0 k
def sm_ap (s c u : Nat) (bx : Nat → Int32) : Nat → Int32 := upd (upd bx (10 * s + 7 + c) (nI u)) (10 * s + 6) (nI (c + 1))
theorem sm_LQu {N c u : Nat} {q : Nat → Nat} (h : sm_LQ N c q) (hc : c < 3) (hu : u / 32 < N) (hr : u % 32 ≤ 29) : sm_LQ N (c + 1) (sm_un q c u) := by
  refine ⟨by omega, fun i hi => ?_, fun i hi => ?_⟩
  · by_cases e : i = c
    · rw [e, sm_us]; exact ⟨hu, hr⟩
    · rw [sm_uo e]; exact h.2.1 i (by omega)
  · rw [sm_uo (by omega)]; exact h.2.2 i (by omega)
theorem sm_LBu {s c u : Nat} {q : Nat → Nat} {bx b0 : Nat → Int32} (h : sm_LB s c q bx b0) (hc : c < 3) : sm_LB s (c + 1) (sm_un q c u) (sm_ap s c u bx) b0 := by
  unfold sm_ap
  refine ⟨pk_us, fun i hi => ⟨fun hic => ?_, fun hic => ?_⟩, fun k hk => ?_⟩
  · rw [pk_un (by omega)]
    by_cases e : i = c
    · rw [e, pk_us, sm_us]
    · rw [pk_un (by omega), sm_uo e]; exact (h.2.1 i hi).1 (by omega)
  · rw [pk_un (by omega), pk_un (by omega)]; exact (h.2.1 i hi).2 (by omega)
  · rw [pk_un (by omega), pk_un (by omega)]; exact h.2.2 k hk
theorem sm_tku {c u : Nat} {q : Nat → Nat} (m : Nat) : sm_tk (c + 1) (sm_un q c u) m ↔ sm_tk c q m ∨ m = u / 32 := by
  constructor
  · rintro ⟨i, hi, h⟩
    by_cases e : i = c
    · rw [e, sm_us] at h; exact Or.inr h.symm
    · rw [sm_uo e] at h; exact Or.inl ⟨i, by omega, h⟩
  · rintro (⟨i, hi, h⟩ | h)
    · exact ⟨i, by omega, by rw [sm_uo (by omega)]; exact h⟩
    · exact ⟨c, by omega, by rw [sm_us]; exact h.symm⟩
theorem sm_qlt {N c : Nat} {q : Nat → Nat} (h : sm_LQ N c q) (hN : N ≤ 8) (i : Nat) : q i < 256 := by
  by_cases e : i < c
  · have := h.2.1 i e
    omega
  · rw [h.2.2 i (by omega)]; omega
theorem sm_shw {u k : Nat} (x : Int32) (hx : (x.toBitVec.smod 32).toNat = k) (h : u * 2 ^ k < 4294967296) : nI u <<< x = nI (u * 2 ^ k) := pk_shlN x k hx (by omega)
theorem sm_e3u {N c u : Nat} {q : Nat → Nat} (h : sm_LQ N c q) (hN : N ≤ 8) (hc : c < 3) (hu : u < 256) : nI (sm_e3 q) ||| (nI u <<< ((8 * nI c) &&& 31)) = nI (sm_e3 (sm_un q c u)) := by
  have h0 := sm_qlt h hN 0
  have h1 := sm_qlt h hN 1
  have hc3 : c = 0 ∨ c = 1 ∨ c = 2 := by omega
  rcases hc3 with rfl | rfl | rfl
  · rw [sm_shw (k := 0) _ (by decide) (by omega), sm_orN (by unfold sm_e3; rw [h.2.2 0 (by omega), h.2.2 1 (by omega), h.2.2 2 (by omega)]; decide)]
    unfold sm_e3
    rw [sm_us, sm_uo (by omega), sm_uo (by omega), h.2.2 0 (by omega), h.2.2 1 (by omega), h.2.2 2 (by omega)]
    exact congrArg nI (by omega)
  · rw [sm_shw (k := 8) _ (by decide) (by omega), sm_orN (by unfold sm_e3; rw [h.2.2 1 (by omega), h.2.2 2 (by omega)]; omega)]
    unfold sm_e3
    rw [sm_us, sm_uo (by omega), sm_uo (by omega), h.2.2 1 (by omega), h.2.2 2 (by omega)]
    exact congrArg nI (by omega)
  · rw [sm_shw (k := 16) _ (by decide) (by omega), sm_orN (by unfold sm_e3; rw [h.2.2 2 (by omega)]; omega)]
    unfold sm_e3
    rw [sm_us, sm_uo (by omega), sm_uo (by omega), h.2.2 2 (by omega)]
    exact congrArg nI (by omega)
theorem sm_e3c {N c : Nat} {q : Nat → Nat} (h : sm_LQ N c q) (hN : N ≤ 8) : nI (sm_e3 q) ||| (nI c <<< ((24 : Int32) &&& 31)) = nI (sm_e3 q + 16777216 * c) := by
  have h0 := sm_qlt h hN 0
  have h1 := sm_qlt h hN 1
  have h2 := sm_qlt h hN 2
  have h3 := h.1
  rw [sm_shw (k := 24) _ (by decide) (by omega), sm_orN (by unfold sm_e3; omega)]
  exact congrArg nI (by omega)
/-! the reference's helpers -/
theorem sm_yap {N S B T : Nat} {R Bu Lt Nu L : Nat → Nat} {yu ag bx : Nat → Int32} {a m s c : Nat} {post : SY → Prop} (ha : a < 8) (hm : m < 8) (hs : s < 24) (hc : c < 3) (h6 : bx (10 * s + 6) = nI c) (hb : Bu (8 * a + m) < 8) (hp : post (nI N, nI S, nI B, nI T, yu, sm_vn R, sm_vn (sm_un Bu (8 * a + m) (Bu (8 * a + m) - 1)), sm_vn L, sm_vn Lt, ag, sm_vn Nu, sm_ap s c (32 * m + R (8 * a + m)) bx)) : wpY_append post (nI N, nI S, nI B, nI T, yu, sm_vn R, sm_vn Bu, sm_vn L, sm_vn Lt, ag, sm_vn Nu, bx) (nI s) (nI a) (nI m) := by
  simp (disch := omega) only [wpY_append, sm_m10, sm_p6, sm_p7, sm_cl, h6, sm_inT, sm_ix8, sm_ix32, nI_add, sm_va, sm_p1, true_and, forall_eq]
  refine br_t (nI_lt (b := 3) hc (by decide)) ?_
  by_cases e : Bu (8 * a + m) = 0
  · rw [sm_unid (by omega)] at hp
    exact br_t (by rw [e]; decide) hp
  · refine br_f (nI_nle (by omega) (by omega)) ?_
    rw [sm_s1 (by omega), sm_vu]
    exact hp
theorem sm_yli {N S B T : Nat} {R Bu Lt Nu L : Nat → Nat} {yu ag bx : Nat → Int32} {A A' : Prop} {s c m : Nat} {q : Nat → Nat} (hs : s < 24) (hm : m < 8) (h6 : bx (10 * s + 6) = nI c) (hc : c ≤ 3) (hq : ∀ i, i < c → q i < 256 ∧ bx (10 * s + 7 + i) = nI (q i)) (f : ¬ sm_tk c q m → A) (g : sm_tk c q m → A') : wpY_listed (fun r => (r = 0 → A) ∧ (¬ r = 0 → A')) (nI N, nI S, nI B, nI T, yu, sm_vn R, sm_vn Bu, sm_vn L, sm_vn Lt, ag, sm_vn Nu, bx) (nI s) (nI m) := by
  have key : ∀ d j, j + d = 3 → (∀ i, i < j → i < c → ¬ q i / 32 = m) → wY_listed_2 (fun r => (r = 0 → A) ∧ (¬ r = 0 → A')) (nI s) (nI m) (nI N) (nI S) (nI B) (nI T) yu (sm_vn R) (sm_vn Bu) (sm_vn L) (sm_vn Lt) ag (sm_vn Nu) bx (d + 1) (nI j) := by
    intro d
    induction d with
    | zero =>
      intro j hj hn
      refine br_t (nI_le (a := 3) (by omega) (by omega)) (br_t rfl (f ?_))
      rintro ⟨i, hi, h⟩
      exact hn i (by omega) hi h
    | succ d ih =>
      intro j hj hn
      refine br_f (nI_ge (b := 3) (by omega) (by decide)) ?_
      simp (disch := omega) only [sm_m10, sm_p6, sm_p7, sm_cl, h6, sm_inT, nI_add, true_and]
      by_cases e : c ≤ j
      · exact br_t (nI_le e (by omega)) (nm_r (sm_p1 j) (ih (j + 1) (by omega) (fun i hi hic => hn i (by omega) hic)))
      · have hqj := hq j (by omega)
        refine br_f (nI_ge (by omega) (by omega)) (And.intro sm_n32 ?_)
        rw [hqj.2, sm_d32 (by omega)]
        by_cases e2 : q j / 32 = m
        · exact br_t (by rw [e2]) (br_f (by decide) (g ⟨j, by omega, e2⟩))
        · refine br_f (sm_ne (by omega) (by omega) e2) (nm_r (sm_p1 j) (ih (j + 1) (by omega) (fun i hi hic => ?_)))
          by_cases e3 : i = j
          · rw [e3]; exact e2
          · exact hn i (by omega) hic
  exact ⟨4, key 3 0 (by omega) (fun i hi => absurd hi (by omega))⟩
/-! the best member -/
def sm_bst (Bu : Nat → Nat) (a c : Nat) (q : Nat → Nat) (j : Nat) (x : Int32) : Prop := (x = -1 ∧ ∀ m, m < j → Bu (8 * a + m) = 0 ∨ sm_tk c q m) ∨ ∃ b, b < j ∧ x = nI b ∧ 0 < Bu (8 * a + b) ∧ ¬ sm_tk c q b ∧ (∀ m, m < j → sm_tk c q m ∨ Bu (8 * a + m) ≤ Bu (8 * a + b)) ∧ ∀ m, m < b → sm_tk c q m ∨ Bu (8 * a + m) < Bu (8 * a + b)
def sm_pk (Bu : Nat → Nat) (a c : Nat) (q : Nat → Nat) (N m : Nat) : Prop := m < N ∧ 0 < Bu (8 * a + m) ∧ ¬ sm_tk c q m ∧ (∀ m', m' < N → sm_tk c q m' ∨ Bu (8 * a + m') ≤ Bu (8 * a + m)) ∧ ∀ m', m' < m → sm_tk c q m' ∨ Bu (8 * a + m') < Bu (8 * a + m)
theorem sm_bst_keep {Bu : Nat → Nat} {a c j : Nat} {q : Nat → Nat} {x : Int32} (h : sm_bst Bu a c q j x) (hj : Bu (8 * a + j) = 0 ∨ sm_tk c q j) : sm_bst Bu a c q (j + 1) x := by
  rcases h with ⟨h1, h2⟩ | ⟨b, h1, h2, h3, h4, h5, h6⟩
  · refine Or.inl ⟨h1, fun m hm => ?_⟩
    by_cases e : m = j
    · rw [e]; exact hj
    · exact h2 m (by omega)
  · refine Or.inr ⟨b, by omega, h2, h3, h4, fun m hm => ?_, h6⟩
    by_cases e : m = j
    · rw [e]
      rcases hj with hj | hj
      · exact Or.inr (by omega)
      · exact Or.inl hj
    · exact h5 m (by omega)
theorem sm_bst_le {Bu : Nat → Nat} {a c j b : Nat} {q : Nat → Nat} (hj8 : j ≤ 8) (hb : b < 8) (h : sm_bst Bu a c q j (nI b)) (hj : Bu (8 * a + j) ≤ Bu (8 * a + b)) : sm_bst Bu a c q (j + 1) (nI b) := by
  rcases h with ⟨h1, h2⟩ | ⟨b', h1, h2, h3, h4, h5, h6⟩
  · exact absurd h1 (sm_nm1 (by omega))
  · have e := sm_ei h2 (by omega) (by omega)
    subst e
    refine Or.inr ⟨b, by omega, rfl, h3, h4, fun m hm => ?_, h6⟩
    by_cases e : m = j
    · rw [e]; exact Or.inr hj
    · exact h5 m (by omega)
theorem sm_bst_new {Bu : Nat → Nat} {a c j : Nat} {q : Nat → Nat} {x : Int32} (h : sm_bst Bu a c q j x) (h0 : 0 < Bu (8 * a + j)) (ht : ¬ sm_tk c q j) (hx : ∀ b, b < j → x = nI b → Bu (8 * a + b) < Bu (8 * a + j)) : sm_bst Bu a c q (j + 1) (nI j) := by
  refine Or.inr ⟨j, by omega, rfl, h0, ht, fun m hm => ?_, fun m hm => ?_⟩
  · by_cases e : m = j
    · rw [e]; exact Or.inr (Nat.le_refl _)
    · rcases h with ⟨h1, h2⟩ | ⟨b', h1, h2, h3, h4, h5, h6⟩
      · rcases h2 m (by omega) with z | z
        · exact Or.inr (by omega)
        · exact Or.inl z
      · have := hx b' h1 h2
        rcases h5 m (by omega) with z | z
        · exact Or.inl z
        · exact Or.inr (by omega)
  · rcases h with ⟨h1, h2⟩ | ⟨b', h1, h2, h3, h4, h5, h6⟩
    · rcases h2 m (by omega) with z | z
      · exact Or.inr (by omega)
      · exact Or.inl z
    · have := hx b' h1 h2
      rcases h5 m (by omega) with z | z
      · exact Or.inl z
      · exact Or.inr (by omega)
theorem sm_bst_pk {Bu : Nat → Nat} {a c N m : Nat} {q : Nat → Nat} {x : Int32} (h : sm_bst Bu a c q N x) (hp : sm_pk Bu a c q N m) : x = nI m := by
  obtain ⟨p1, p2, p3, p4, p5⟩ := hp
  rcases h with ⟨h1, h2⟩ | ⟨b, h1, h2, h3, h4, h5, h6⟩
  · rcases h2 m p1 with z | z
    · omega
    · exact absurd z p3
  · rw [h2]
    have a1 := (p4 b h1).resolve_left h4
    have a2 := (h5 m p1).resolve_left p3
    rcases Nat.lt_trichotomy b m with e | e | e
    · have := (p5 b e).resolve_left h4
      omega
    · rw [e]
    · have := (h6 m e).resolve_left p3
      omega
/-- the reference's scan for the best member -/
theorem sm_y176 {N S B T : Nat} {R Bu Lt Nu L : Nat → Nat} {yu ag bx : Nat → Int32} {post : SY → Prop} {J : Int32 → Int32 → Int32 → Int32 → Int32 → (Nat → Int32) → (Nat → Int32) → (Nat → Int32) → (Nat → Int32) → (Nat → Int32) → (Nat → Int32) → (Nat → Int32) → (Nat → Int32) → Prop} {a s c : Nat} {q : Nat → Nat} {x8 : Int32} (hN : N ≤ 8) (ha : a < 8) (hs : s < 24) (hb : ∀ k, Bu k < 8) (h6 : bx (10 * s + 6) = nI c) (hc : c ≤ 3) (hq : ∀ i, i < c → q i < 256 ∧ bx (10 * s + 7 + i) = nI (q i))
    (hK : ∀ n x, sm_bst Bu a c q N x → wY_send_176 post J (nI a) (nI s) x8 (nI N) (nI S) (nI B) (nI T) yu (sm_vn R) (sm_vn Bu) (sm_vn L) (sm_vn Lt) ag (sm_vn Nu) bx (n + 1) x (nI N)) : ∀ d j x, j + d = N → sm_bst Bu a c q j x → wY_send_176 post J (nI a) (nI s) x8 (nI N) (nI S) (nI B) (nI T) yu (sm_vn R) (sm_vn Bu) (sm_vn L) (sm_vn Lt) ag (sm_vn Nu) bx (d + 1) x (nI j) := by
  intro d
  induction d with
  | zero =>
    intro j x hj h
    have e : j = N := by omega
    subst e
    exact hK 0 x h
  | succ d ih =>
    intro j x hj h
    have hbj := hb (8 * a + j)
    have eb : sm_vn Bu (8 * nI a + nI j).toNatClampNeg = nI (Bu (8 * a + j)) := by rw [sm_ix8, sm_cl (by omega), sm_va]
    have ev : vp_in (8 * nI a + nI j) 64 := by rw [sm_ix8]; exact sm_in (by omega) (by omega)
    refine br_f (nI_ge (by omega) (by omega)) (And.intro ev (br_c (fun hz => ?_) (fun hz => ?_)))
    · rw [eb, ← nI_0, nI_leI (by omega) (by omega)] at hz
      exact nm_r (sm_p1 j) (ih (j + 1) x (by omega) (sm_bst_keep h (Or.inl (by omega))))
    · rw [eb, ← nI_0, nI_leI (by omega) (by omega)] at hz
      refine sm_yli hs (by omega) h6 hc hq (fun ht => ?_) (fun ht => ?_)
      · refine br_c (fun hx => ?_) (fun hx => ?_)
        · refine nm_r (sm_p1 j) (ih (j + 1) (nI j) (by omega) (sm_bst_new h (by omega) ht (fun b hbj e => ?_)))
          rw [e] at hx
          exact absurd hx (nI_pos (by omega))
        · have h' := h
          rcases h' with ⟨h1, _⟩ | ⟨b, h1, h2, _⟩
          · rw [h1] at hx
            exact absurd (by decide) hx
          · subst h2
            have hbb := hb (8 * a + b)
            have eb2 : sm_vn Bu (8 * nI a + nI b).toNatClampNeg = nI (Bu (8 * a + b)) := by rw [sm_ix8, sm_cl (by omega), sm_va]
            have ev2 : vp_in (8 * nI a + nI b) 64 := by rw [sm_ix8]; exact sm_in (by omega) (by omega)
            refine And.intro ev (And.intro ev2 (br_c (fun hl => ?_) (fun hl => ?_)))
            · rw [eb, eb2, nI_leI (by omega) (by omega)] at hl
              exact nm_r (sm_p1 j) (ih (j + 1) (nI b) (by omega) (sm_bst_le (by omega) (by omega) h hl))
            · rw [eb, eb2, nI_leI (by omega) (by omega)] at hl
              refine nm_r (sm_p1 j) (ih (j + 1) (nI j) (by omega) (sm_bst_new h (by omega) ht (fun b' hb' e => ?_)))
              have := sm_ei e (by omega) (by omega)
              subst this
              omega
      · exact nm_r (sm_p1 j) (ih (j + 1) x (by omega) (sm_bst_keep h (Or.inr ht)))
/-- a turn of the reference's loop that takes nothing -/
theorem sm_y164n {N S B T : Nat} {R Bu Lt Nu L : Nat → Nat} {yu ag bx : Nat → Int32} {post : SY → Prop} {a s c i n : Nat} {q : Nat → Nat} (hN : N ≤ 8) (ha : a < 8) (hs : s < 24) (hb : ∀ k, Bu k < 8) (h6 : bx (10 * s + 6) = nI c) (hc : c ≤ 3) (hq : ∀ i, i < c → q i < 256 ∧ bx (10 * s + 7 + i) = nI (q i)) (hi : i < 3) (hn : c = 3 ∨ ∀ m, m < N → Bu (8 * a + m) = 0 ∨ sm_tk c q m) (hp : wY_send_164 post (nI a) (nI s) n (nI (i + 1)) (nI N) (nI S) (nI B) (nI T) yu (sm_vn R) (sm_vn Bu) (sm_vn L) (sm_vn Lt) ag (sm_vn Nu) bx) : wY_send_164 post (nI a) (nI s) (n + 1) (nI i) (nI N) (nI S) (nI B) (nI T) yu (sm_vn R) (sm_vn Bu) (sm_vn L) (sm_vn Lt) ag (sm_vn Nu) bx := by
  refine br_f (nI_ge (b := 3) (by omega) (by decide)) ⟨N + 1, ?_⟩
  refine sm_y176 hN ha hs hb h6 hc hq (fun n' x hx => ?_) N 0 (-1) (by omega) (Or.inl ⟨rfl, fun m hm => absurd hm (by omega)⟩)
  refine br_t (nI_le (Nat.le_refl _) (by omega)) ?_
  rcases hx with ⟨h1, _⟩ | ⟨b, h1, h2, h3, h4, h5, _⟩
  · exact br_t (by rw [h1]; decide) (nm_r (sm_p1 i) hp)
  · subst h2
    refine br_f (nI_pos (by omega)) ?_
    simp (disch := omega) only [sm_m10, sm_p6, sm_cl, h6, sm_inT, true_and]
    refine br_t ?_ (nm_r (sm_p1 i) hp)
    rcases hn with hn | hn
    · rw [hn]; decide
    · rcases hn b h1 with z | z
      · omega
      · exact absurd z h4
/-- a turn that takes m -/
theorem sm_y164p {N S B T : Nat} {R Bu Lt Nu L : Nat → Nat} {yu ag bx : Nat → Int32} {post : SY → Prop} {a s c i n m : Nat} {q : Nat → Nat} (hN : N ≤ 8) (ha : a < 8) (hs : s < 24) (hb : ∀ k, Bu k < 8) (h6 : bx (10 * s + 6) = nI c) (hc : c < 3) (hq : ∀ i, i < c → q i < 256 ∧ bx (10 * s + 7 + i) = nI (q i)) (hi : i < 3) (hm : sm_pk Bu a c q N m) (hp : wY_send_164 post (nI a) (nI s) n (nI (i + 1)) (nI N) (nI S) (nI B) (nI T) yu (sm_vn R) (sm_vn (sm_un Bu (8 * a + m) (Bu (8 * a + m) - 1))) (sm_vn L) (sm_vn Lt) ag (sm_vn Nu) (sm_ap s c (32 * m + R (8 * a + m)) bx)) : wY_send_164 post (nI a) (nI s) (n + 1) (nI i) (nI N) (nI S) (nI B) (nI T) yu (sm_vn R) (sm_vn Bu) (sm_vn L) (sm_vn Lt) ag (sm_vn Nu) bx := by
  have hm8 := hm.1
  refine br_f (nI_ge (b := 3) (by omega) (by decide)) ⟨N + 1, ?_⟩
  refine sm_y176 hN ha hs hb h6 (by omega) hq (fun n' x hx => ?_) N 0 (-1) (by omega) (Or.inl ⟨rfl, fun m hm => absurd hm (by omega)⟩)
  have e := sm_bst_pk hx hm
  subst e
  refine br_t (nI_le (Nat.le_refl _) (by omega)) (br_f (nI_pos (by omega)) ?_)
  simp (disch := omega) only [sm_m10, sm_p6, sm_cl, h6, sm_inT, true_and]
  refine br_f (nI_ge (b := 3) (by omega) (by decide)) ?_
  refine sm_yap ha (by omega) hs hc h6 (hb _) ?_
  exact nm_r (sm_p1 i) hp
/-- the reference's loop to its end, nothing taken -/
theorem sm_y164f {N S B T : Nat} {R Bu Lt Nu L : Nat → Nat} {yu ag bx : Nat → Int32} {post : SY → Prop} {a s c : Nat} {q : Nat → Nat} (hN : N ≤ 8) (ha : a < 8) (hs : s < 24) (hb : ∀ k, Bu k < 8) (h6 : bx (10 * s + 6) = nI c) (hc : c ≤ 3) (hq : ∀ i, i < c → q i < 256 ∧ bx (10 * s + 7 + i) = nI (q i)) (hn : c = 3 ∨ ∀ m, m < N → Bu (8 * a + m) = 0 ∨ sm_tk c q m) (hp : post (nI N, nI S, nI B, nI T, yu, sm_vn R, sm_vn Bu, sm_vn L, sm_vn Lt, ag, sm_vn Nu, bx)) : ∀ n i, i ≤ 3 → 3 - i < n → wY_send_164 post (nI a) (nI s) n (nI i) (nI N) (nI S) (nI B) (nI T) yu (sm_vn R) (sm_vn Bu) (sm_vn L) (sm_vn Lt) ag (sm_vn Nu) bx := by
  intro n
  induction n with
  | zero => intro i _ h; exact absurd h (by omega)
  | succ n ih =>
    intro i hi h
    by_cases e : i = 3
    · subst e
      exact br_t (show nI 3 ≤ nI 3 by decide) hp
    · exact sm_y164n hN ha hs hb h6 hc hq (by omega) hn (ih (i + 1) (by omega) (by omega))
end
end
section
section
theorem sm_xtk {N B a m : Nat} {R Bu : Nat → Nat} {nw : Nat → Int32} (hB : sm_B N B Bu nw) (hN : N ≤ 8) (hB6 : B ≤ 6) (ha : a < N) (hm : m < N) : ∃ nw', sm_B N B (sm_un Bu (8 * a + m) (Bu (8 * a + m) - 1)) nw' ∧ ∀ {post : Int32 → SX → Prop} {S T : Nat} {all up fr : Int32} {C Lt Nu : Nat → Nat} {du al de wh dt ag xh xl : Nat → Int32}, post (nI (32 * m + R (8 * a + m))) (nI N, nI S, nI B, nI T, all, up, fr, sm_vn R, sm_vn (sm_un Bu (8 * a + m) (Bu (8 * a + m) - 1)), du, nw', al, de, sm_vn C, wh, dt, sm_vn Lt, ag, sm_vn Nu, xh, xl) → wpX_take post (nI N, nI S, nI B, nI T, all, up, fr, sm_vn R, sm_vn Bu, du, nw, al, de, sm_vn C, wh, dt, sm_vn Lt, ag, sm_vn Nu, xh, xl) (nI a) (nI m) := by
  have hb := hB.1 (8 * a + m)
  by_cases e : Bu (8 * a + m) = 0
  · refine ⟨nw, by rw [sm_unid (by omega)]; exact hB, ?_⟩
    intro post S T all up fr C Lt Nu du al de wh dt ag xh xl hp
    rw [sm_unid (by omega)] at hp
    simp (disch := omega) only [wpX_take, wX_take_25, sm_ix8, sm_ix32, sm_cl, sm_va, sm_inT, true_and, forall_eq]
    exact br_t (by rw [e]; decide) hp
  · refine ⟨_, sm_sbB hB hN hB6 ha hm (by omega), ?_⟩
    intro post S T all up fr C Lt Nu du al de wh dt ag xh xl hp
    have ev : vp_in (8 * nI a + nI m) 64 := by rw [sm_ix8]; exact sm_in (by omega) (by omega)
    refine And.intro ev (nm_r (e' := nI (Bu (8 * a + m))) (by rw [sm_ix8, sm_cl (by omega), sm_va]) (br_f (nI_nle (by omega) (by omega)) ?_))
    rw [sm_s1 (by omega)]
    refine sm_xsb (by omega) (by omega) (by omega) (by omega) ?_
    refine And.intro ev ?_
    rw [sm_ix8, sm_cl (by omega), sm_va, sm_ix32]
    exact hp
/-- how the gathering of news ends, on both sides -/
def sm_OUT (N S B T : Nat) (all up fr : Int32) (R C Lt Nu L : Nat → Nat) (du al de wh dt ag xh xl yu : Nat → Int32) (s : Nat) (b0 : Nat → Int32) (WX : (Int32 → SX → Prop) → Prop) (WY : (SY → Prop) → Prop) : Prop :=
  ∃ (Bu : Nat → Nat) (nw : Nat → Int32) (c : Nat) (q : Nat → Nat) (bx : Nat → Int32), sm_B N B Bu nw ∧ sm_LQ N c q ∧ sm_LB s c q bx b0 ∧ (∀ post, post (nI (sm_e3 q + 16777216 * c)) (nI N, nI S, nI B, nI T, all, up, fr, sm_vn R, sm_vn Bu, du, nw, al, de, sm_vn C, wh, dt, sm_vn Lt, ag, sm_vn Nu, xh, xl) → WX post) ∧ ∀ post, post (nI N, nI S, nI B, nI T, yu, sm_vn R, sm_vn Bu, sm_vn L, sm_vn Lt, ag, sm_vn Nu, bx) → WY post
theorem sm_OUTm {N S B T : Nat} {all up fr : Int32} {R C Lt Nu L : Nat → Nat} {du al de wh dt ag xh xl yu : Nat → Int32} {s : Nat} {b0 : Nat → Int32} {WX WX' : (Int32 → SX → Prop) → Prop} {WY WY' : (SY → Prop) → Prop} (h : sm_OUT N S B T all up fr R C Lt Nu L du al de wh dt ag xh xl yu s b0 WX WY) (f : ∀ post, WX post → WX' post) (g : ∀ post, WY post → WY' post) : sm_OUT N S B T all up fr R C Lt Nu L du al de wh dt ag xh xl yu s b0 WX' WY' := by
  obtain ⟨Bu, nw, c, q, bx, h1, h2, h3, h4, h5⟩ := h
  exact ⟨Bu, nw, c, q, bx, h1, h2, h3, fun post hp => f post (h4 post hp), fun post hp => g post (h5 post hp)⟩
/-- what holds in the loops: level l bounds the budgets of the members not taken -/
def sm_LI (N B a s c i l : Nat) (q Bu : Nat → Nat) (nw bx b0 : Nat → Int32) (tk : Int32) : Prop := sm_B N B Bu nw ∧ sm_LQ N c q ∧ sm_LB s c q bx b0 ∧ (∀ m, m < 32 → (bt tk m = true ↔ sm_tk c q m)) ∧ i ≤ c ∧ (c = 3 ∨ ∀ m, m < N → sm_tk c q m ∨ Bu (8 * a + m) ≤ l)
section
variable {N S B T : Nat} {all up fr : Int32} {R C Lt Nu L : Nat → Nat} {du al de wh dt ag xh xl yu : Nat → Int32} {a s : Nat} {b0 : Nat → Int32}
theorem sm_LIq {c i l : Nat} {q Bu : Nat → Nat} {nw bx : Nat → Int32} {tk : Int32} (hN : N ≤ 8) (h : sm_LI N B a s c i l q Bu nw bx b0 tk) : ∀ i, i < c → q i < 256 ∧ bx (10 * s + 7 + i) = nI (q i) := by
  obtain ⟨h1, h2, h3, _⟩ := h
  exact fun i hi => ⟨sm_qlt h2 hN i, (h3.2.1 i (by have := h2.1; omega)).1 hi⟩
/-- at the end of the component's loop -/
theorem sm_news_end (hN : N ≤ 8) (hB6 : B ≤ 6) (ha : a < N) (hs : s < 24) {c i l : Nat} {q Bu : Nat → Nat} {nw bx : Nat → Int32} {tk : Int32} (hl : l ≤ 6) (h : sm_LI N B a s c i l q Bu nw bx b0 tk) (he : c = 3 ∨ l = 0) : sm_OUT N S B T all up fr R C Lt Nu L du al de wh dt ag xh xl yu s b0
    (fun post => ∀ n, l < n → wX_collectNews_43 post (nI a) n (nI (sm_e3 q)) tk (nI c) (nI l) (nI N) (nI S) (nI B) (nI T) all up fr (sm_vn R) (sm_vn Bu) du nw al de (sm_vn C) wh dt (sm_vn Lt) ag (sm_vn Nu) xh xl)
    (fun post => ∀ n, 3 - i < n → wY_send_164 post (nI a) (nI s) n (nI i) (nI N) (nI S) (nI B) (nI T) yu (sm_vn R) (sm_vn Bu) (sm_vn L) (sm_vn Lt) ag (sm_vn Nu) bx) := by
  have hq := sm_LIq hN h
  obtain ⟨h1, h2, h3, h4, h5, h6⟩ := h
  have hc := h2.1
  have hb : ∀ k, Bu k < 8 := fun k => by have := h1.1 k; omega
  refine ⟨Bu, nw, c, q, bx, h1, h2, h3, fun post hp n hn => ?_, fun post hp n hn => ?_⟩
  · obtain ⟨n', rfl⟩ : ∃ n', n = n' + 1 := ⟨n - 1, by omega⟩
    by_cases e : l = 0
    · subst e
      refine br_t (show nI 0 ≤ nI 0 by decide) ?_
      rw [sm_e3c h2 hN]
      exact hp
    · have e3 : c = 3 := by omega
      subst e3
      refine br_f (nI_nle (by omega) (by omega)) (br_t (show nI 3 ≤ nI 3 by decide) ?_)
      rw [sm_e3c h2 hN]
      exact hp
  · refine sm_y164f hN (by omega) hs hb h3.1 hc hq ?_ hp n i (by omega) hn
    rcases h6 with h6 | h6
    · exact Or.inl h6
    · rcases he with he | he
      · exact Or.inl he
      · refine Or.inr (fun m hm => ?_)
        rcases h6 m hm with z | z
        · exact Or.inr z
        · exact Or.inl (by omega)
theorem sm_news (hN : N ≤ 8) (hB6 : B ≤ 6) (hR : ∀ k, R k ≤ 29) (ha : a < N) (hs : s < 24) : ∀ l, l ≤ 6 → ∀ (c i : Nat) (q Bu : Nat → Nat) (nw bx : Nat → Int32) (tk : Int32), sm_LI N B a s c i l q Bu nw bx b0 tk → sm_OUT N S B T all up fr R C Lt Nu L du al de wh dt ag xh xl yu s b0
    (fun post => ∀ n, l < n → wX_collectNews_43 post (nI a) n (nI (sm_e3 q)) tk (nI c) (nI l) (nI N) (nI S) (nI B) (nI T) all up fr (sm_vn R) (sm_vn Bu) du nw al de (sm_vn C) wh dt (sm_vn Lt) ag (sm_vn Nu) xh xl)
    (fun post => ∀ n, 3 - i < n → wY_send_164 post (nI a) (nI s) n (nI i) (nI N) (nI S) (nI B) (nI T) yu (sm_vn R) (sm_vn Bu) (sm_vn L) (sm_vn Lt) ag (sm_vn Nu) bx) := by
  intro l
  induction l with
  | zero => intro hl c i q Bu nw bx tk h; exact sm_news_end hN hB6 ha hs hl h (Or.inr rfl)
  | succ l ihl =>
    intro hl
    have inner : ∀ (e c i : Nat) (q Bu : Nat → Nat) (nw bx : Nat → Int32) (tk op : Int32), c + e = 3 → sm_LI N B a s c i (l + 1) q Bu nw bx b0 tk → (∀ m, m < 32 → (bt op m = true ↔ m < N ∧ Bu (8 * a + m) = l + 1 ∧ ¬ sm_tk c q m)) → sm_OUT N S B T all up fr R C Lt Nu L du al de wh dt ag xh xl yu s b0
        (fun post => ∀ n nn, l < n → e < nn → wX_collectNews_73 post (wX_collectNews_43 post (nI a) n) (nI a) (nI (l + 1)) nn (nI (sm_e3 q)) tk (nI c) op (nI N) (nI S) (nI B) (nI T) all up fr (sm_vn R) (sm_vn Bu) du nw al de (sm_vn C) wh dt (sm_vn Lt) ag (sm_vn Nu) xh xl)
        (fun post => ∀ n, 3 - i < n → wY_send_164 post (nI a) (nI s) n (nI i) (nI N) (nI S) (nI B) (nI T) yu (sm_vn R) (sm_vn Bu) (sm_vn L) (sm_vn Lt) ag (sm_vn Nu) bx) := by
      intro e
      induction e with
      | zero =>
        intro c i q Bu nw bx tk op hc h ho
        have e3 : c = 3 := by omega
        subst e3
        refine sm_OUTm (ihl (by omega) 3 i q Bu nw bx tk ⟨h.1, h.2.1, h.2.2.1, h.2.2.2.1, h.2.2.2.2.1, Or.inl rfl⟩) (fun post hp n nn hn hnn => ?_) (fun post hp => hp)
        obtain ⟨nn', rfl⟩ : ∃ n', nn = n' + 1 := ⟨nn - 1, by omega⟩
        exact br_c (fun _ => nm_r (pk_m1 l) (hp n hn)) (fun _ => br_t (show nI 3 ≤ nI 3 by decide) (nm_r (pk_m1 l) (hp n hn)))
      | succ e ihe =>
        intro c i q Bu nw bx tk op hc h ho
        have hq := sm_LIq hN h
        obtain ⟨h1, h2, h3, h4, h5, h6⟩ := h
        have h6' : ∀ m, m < N → sm_tk c q m ∨ Bu (8 * a + m) ≤ l + 1 := h6.resolve_left (by omega)
        by_cases hz : op = 0
        · refine sm_OUTm (ihl (by omega) c i q Bu nw bx tk ⟨h1, h2, h3, h4, h5, Or.inr (fun m hm => ?_)⟩) (fun post hp n nn hn hnn => ?_) (fun post hp => hp)
          · by_cases ht : sm_tk c q m
            · exact Or.inl ht
            · have hf : ¬ bt op m = true := by rw [hz, b_0]; decide
              rw [ho m (by omega)] at hf
              have := h6' m hm
              rcases this with z | z
              · exact Or.inl z
              · refine Or.inr ?_
                have : ¬ Bu (8 * a + m) = l + 1 := fun z2 => hf ⟨hm, z2, ht⟩
                omega
          · obtain ⟨nn', rfl⟩ : ∃ n', nn = n' + 1 := ⟨nn - 1, by omega⟩
            exact br_t hz (nm_r (pk_m1 l) (hp n hn))
        · obtain ⟨m, hm32, hmb, hml, hlow⟩ := sm_low hz
          obtain ⟨hmN, hmB, hmt⟩ := (ho m hm32).mp hmb
          have hb : ∀ k, Bu k < 8 := fun k => by have := h1.1 k; omega
          have hpk : sm_pk Bu a c q N m := by
            refine ⟨hmN, by omega, hmt, fun m' hm' => by rw [hmB]; exact h6' m' hm', fun m' hm' => ?_⟩
            by_cases ht : sm_tk c q m'
            · exact Or.inl ht
            · have hf : ¬ bt op m' = true := by rw [hml m' hm']; decide
              rw [ho m' (by omega)] at hf
              rcases h6' m' (by omega) with z | z
              · exact Or.inl z
              · refine Or.inr ?_
                have : ¬ Bu (8 * a + m') = l + 1 := fun z2 => hf ⟨by omega, z2, ht⟩
                omega
          obtain ⟨nw', hB', hTake⟩ := sm_xtk (R := R) h1 hN hB6 ha hmN
          have hRm := hR (8 * a + m)
          have hu : (32 * m + R (8 * a + m)) / 32 = m := by omega
          have hu2 : (32 * m + R (8 * a + m)) % 32 ≤ 29 := by omega
          have hc3 : c < 3 := by omega
          refine sm_OUTm (ihe (c + 1) (i + 1) (sm_un q c (32 * m + R (8 * a + m))) (sm_un Bu (8 * a + m) (Bu (8 * a + m) - 1)) nw' (sm_ap s c (32 * m + R (8 * a + m)) bx) (sm_ob tk m) (op &&& (op - 1)) (by omega) ⟨hB', sm_LQu h2 hc3 (by omega) hu2, sm_LBu h3 hc3, ?_, by omega, Or.inr ?_⟩ ?_) (fun post hp n nn hn hnn => ?_) (fun post hp n hn => ?_)
          · intro j hj
            rw [sm_obb tk hm32 hj, Bool.or_eq_true, h4 j hj, decide_eq_true_eq, sm_tku, hu]
          · intro j hj
            rw [sm_tku, hu]
            by_cases ej : j = m
            · exact Or.inl (Or.inr ej)
            · rw [sm_uo (by omega)]
              rcases h6' j hj with z | z
              · exact Or.inl (Or.inl z)
              · exact Or.inr z
          · intro j hj
            rw [sm_clow hm32 hmb hml hj, Bool.and_eq_true, ho j hj, Bool.not_eq_true', decide_eq_false_iff_not, sm_tku, hu]
            by_cases ej : j = m
            · subst ej
              exact ⟨fun z => absurd rfl z.2, fun z => absurd (Or.inr rfl) z.2.2⟩
            · constructor
              · rintro ⟨⟨z1, z2, z3⟩, z4⟩
                refine ⟨z1, by rw [sm_uo (by omega)]; exact z2, ?_⟩
                rintro (z | z)
                · exact z3 z
                · exact z4 z
              · rintro ⟨z1, z2, z3⟩
                rw [sm_uo (by omega)] at z2
                exact ⟨⟨z1, z2, fun z => z3 (Or.inl z)⟩, ej⟩
          · obtain ⟨nn', rfl⟩ : ∃ n', nn = n' + 1 := ⟨nn - 1, by omega⟩
            refine br_f hz (br_f (nI_ge (b := 3) hc3 (by decide)) (hlow _ _ (nm_e (nm_e (hTake ?_)))))
            exact nm_r (sm_e3u h2 hN hc3 (by omega)) (nm_r (sm_p1 c) (hp n nn' hn (by omega)))
          · obtain ⟨n', rfl⟩ : ∃ n', n = n' + 1 := ⟨n - 1, by omega⟩
            exact sm_y164p hN (by omega) hs hb h3.1 hc3 hq (by omega) hpk (hp n' (by omega))
    intro c i q Bu nw bx tk h
    by_cases e3 : c = 3
    · exact sm_news_end hN hB6 ha hs hl h (Or.inl e3)
    · have hc3 : c < 3 := by have := h.2.1.1; omega
      have hb := h.1
      have htk := h.2.2.2.1
      refine sm_OUTm (inner (3 - c) c i q Bu nw bx tk (nw (8 * a + (l + 1)) &&& (tk ^^^ (-1))) (by omega) h (fun j hj => ?_)) (fun post hp n hn => ?_) (fun post hp => hp)
      · rw [b_and, Bool.and_eq_true, hb.2 a ha (l + 1) (by omega) j hj, sm_not tk hj, Bool.not_eq_true', ← Bool.not_eq_true, htk j hj, decide_eq_true_eq]
        exact ⟨fun z => ⟨z.1.1, z.1.2, z.2⟩, fun z => ⟨⟨z.1, z.2.1⟩, z.2.2⟩⟩
      · obtain ⟨n', rfl⟩ : ∃ n', n = n' + 1 := ⟨n - 1, by omega⟩
        refine br_f (nI_nle (by omega) (by omega)) (br_f (nI_ge (b := 3) hc3 (by decide)) ?_)
        rw [sm_ix8]
        refine And.intro (sm_in (by omega) (by omega)) ?_
        rw [sm_cl (by omega)]
        exact nm_e ⟨4, hp n' 4 (by omega) (by omega)⟩
end
end
end
section
section
theorem sm_ehw {N kd fo to og su nu : Nat} (h : sm_H N kd fo to og su nu) (hN : N ≤ 8) : (((((nI kd ||| (nI fo <<< ((3 : Int32) &&& 31))) ||| (nI to <<< ((6 : Int32) &&& 31))) ||| (nI og <<< ((9 : Int32) &&& 31))) ||| (nI su <<< ((12 : Int32) &&& 31))) ||| (nI nu <<< ((15 : Int32) &&& 31))) = nI (sm_eh kd fo to og su nu) := by
  obtain ⟨h1, h2, h3, h4, h5, h6, h7⟩ := h
  rw [sm_shw (u := fo) (k := 3) _ (by decide) (by omega), sm_shw (u := to) (k := 6) _ (by decide) (by omega), sm_shw (u := og) (k := 9) _ (by decide) (by omega), sm_shw (u := su) (k := 12) _ (by decide) (by omega), sm_shw (u := nu) (k := 15) _ (by decide) (by omega), sm_orN (by omega), sm_orN (by omega), sm_orN (by omega), sm_orN (by omega), sm_orN (by omega)]
  unfold sm_eh
  exact congrArg nI (by omega)
/-! the reference's free slot -/
theorem sm_yfs {N S B T : Nat} {R Bu Lt Nu L : Nat → Nat} {yu ag bx : Nat → Int32} {post : Int32 → Prop} {s : Nat} (hS : S ≤ 24) (hs : s < S) (hz : bx (10 * s) = 0) (hl : ∀ j, j < s → ¬ bx (10 * j) = 0) (hp : post (nI s)) : wpY_freeSlot post (nI N, nI S, nI B, nI T, yu, sm_vn R, sm_vn Bu, sm_vn L, sm_vn Lt, ag, sm_vn Nu, bx) := by
  have key : ∀ d j, j + d = s → wY_freeSlot_2 post (nI N) (nI S) (nI B) (nI T) yu (sm_vn R) (sm_vn Bu) (sm_vn L) (sm_vn Lt) ag (sm_vn Nu) bx (d + 1) (nI j) := by
    intro d
    induction d with
    | zero =>
      intro j hj
      have e : j = s := by omega
      subst e
      refine br_f (nI_ge (by omega) (by omega)) ?_
      rw [sm_m10]
      refine And.intro (sm_in (by omega) (by omega)) ?_
      rw [sm_cl (by omega)]
      exact br_t hz hp
    | succ d ih =>
      intro j hj
      refine br_f (nI_ge (by omega) (by omega)) ?_
      rw [sm_m10]
      refine And.intro (sm_in (by omega) (by omega)) ?_
      rw [sm_cl (by omega)]
      exact br_f (hl j (by omega)) (nm_r (sm_p1 j) (ih (j + 1) (by omega)))
  exact ⟨s + 1, key s 0 (by omega)⟩
theorem sm_yfs0 {N S B T : Nat} {R Bu Lt Nu L : Nat → Nat} {yu ag bx : Nat → Int32} {post : Int32 → Prop} (hS : S ≤ 24) (hl : ∀ j, j < S → ¬ bx (10 * j) = 0) (hp : post (-1)) : wpY_freeSlot post (nI N, nI S, nI B, nI T, yu, sm_vn R, sm_vn Bu, sm_vn L, sm_vn Lt, ag, sm_vn Nu, bx) := by
  have key : ∀ d j, j + d = S → wY_freeSlot_2 post (nI N) (nI S) (nI B) (nI T) yu (sm_vn R) (sm_vn Bu) (sm_vn L) (sm_vn Lt) ag (sm_vn Nu) bx (d + 1) (nI j) := by
    intro d
    induction d with
    | zero =>
      intro j hj
      exact br_t (nI_le (by omega) (by omega)) hp
    | succ d ih =>
      intro j hj
      refine br_f (nI_ge (by omega) (by omega)) ?_
      rw [sm_m10]
      refine And.intro (sm_in (by omega) (by omega)) ?_
      rw [sm_cl (by omega)]
      exact br_f (hl j (by omega)) (nm_r (sm_p1 j) (ih (j + 1) (by omega)))
  exact ⟨S + 1, key S 0 (by omega)⟩
theorem sm_y108 {N S B T : Nat} {R Bu Lt Nu L : Nat → Nat} {yu ag bx : Nat → Int32} {post : SY → Prop} {x2 x3 : Int32} {s i n : Nat} (hs : s < 24) (hi : i < 3) (hp : wY_send_108 post x2 x3 (nI s) (nI N) (nI S) (nI B) (nI T) n (nI (i + 1)) yu (sm_vn R) (sm_vn Bu) (sm_vn L) (sm_vn Lt) ag (sm_vn Nu) (upd bx (10 * s + 7 + i) (-1))) : wY_send_108 post x2 x3 (nI s) (nI N) (nI S) (nI B) (nI T) (n + 1) (nI i) yu (sm_vn R) (sm_vn Bu) (sm_vn L) (sm_vn Lt) ag (sm_vn Nu) bx := by
  refine br_f (nI_ge (b := 3) (by omega) (by decide)) ?_
  rw [sm_m10, sm_p7, nI_add]
  refine And.intro (sm_in (by omega) (by omega)) ?_
  rw [sm_cl (by omega)]
  exact nm_e (nm_r (sm_p1 i) hp)
/-- the ten cells of a slot as the reference's send begins with them -/
def sm_bh (s : Nat) (v0 v1 v2 v3 v4 v5 : Int32) (bx : Nat → Int32) : Nat → Int32 := upd (upd (upd (upd (upd (upd (upd (upd (upd (upd bx (10 * s) v0) (10 * s + 1) v1) (10 * s + 2) v2) (10 * s + 3) v3) (10 * s + 4) v4) (10 * s + 5) v5) (10 * s + 6) 0) (10 * s + 7 + 0) (-1)) (10 * s + 7 + 1) (-1)) (10 * s + 7 + 2) (-1)
theorem sm_bhf {s k : Nat} {v0 v1 v2 v3 v4 v5 : Int32} {bx : Nat → Int32} (h : k < 10 * s ∨ 10 * s + 10 ≤ k) : sm_bh s v0 v1 v2 v3 v4 v5 bx k = bx k := by
  unfold sm_bh
  repeat rw [pk_un (by omega)]
theorem sm_bhv {s : Nat} {v0 v1 v2 v3 v4 v5 : Int32} {bx : Nat → Int32} : sm_bh s v0 v1 v2 v3 v4 v5 bx (10 * s) = v0 ∧ sm_bh s v0 v1 v2 v3 v4 v5 bx (10 * s + 1) = v1 ∧ sm_bh s v0 v1 v2 v3 v4 v5 bx (10 * s + 2) = v2 ∧ sm_bh s v0 v1 v2 v3 v4 v5 bx (10 * s + 3) = v3 ∧ sm_bh s v0 v1 v2 v3 v4 v5 bx (10 * s + 4) = v4 ∧ sm_bh s v0 v1 v2 v3 v4 v5 bx (10 * s + 5) = v5 := by
  unfold sm_bh
  refine ⟨?_, ?_, ?_, ?_, ?_, ?_⟩ <;> (repeat rw [pk_un (by omega)]) <;> rw [pk_us]
theorem sm_bhl {s : Nat} {v0 v1 v2 v3 v4 v5 : Int32} {bx : Nat → Int32} : sm_LB s 0 (fun _ => 0) (sm_bh s v0 v1 v2 v3 v4 v5 bx) (sm_bh s v0 v1 v2 v3 v4 v5 bx) := by
  refine ⟨?_, fun i hi => ⟨fun z => absurd z (by omega), fun _ => ?_⟩, fun _ _ => rfl⟩
  · unfold sm_bh
    rw [pk_un (by omega), pk_un (by omega), pk_un (by omega), pk_us]
    rfl
  · unfold sm_bh
    by_cases e2 : i = 2
    · rw [e2, pk_us]
    · rw [pk_un (by omega)]
      by_cases e1 : i = 1
      · rw [e1, pk_us]
      · rw [pk_un (by omega), show i = 0 by omega, pk_us]
theorem sm_ysend {N S B T : Nat} {R Bu Lt Nu L : Nat → Nat} {yu ag bx : Nat → Int32} {post : SY → Prop} {s kd a b og su nu : Nat} (hS : S ≤ 24) (hs : s < S) (hz : bx (10 * s) = 0) (hl : ∀ j, j < s → ¬ bx (10 * j) = 0) (hp : ∀ n, wY_send_108 post (nI a) (nI b) (nI s) (nI N) (nI S) (nI B) (nI T) (n + 1) (nI 3) yu (sm_vn R) (sm_vn Bu) (sm_vn L) (sm_vn Lt) ag (sm_vn Nu) (sm_bh s (nI kd) (nI a) (nI b) (nI og) (nI su) (nI nu) bx)) : wpY_send post (nI N, nI S, nI B, nI T, yu, sm_vn R, sm_vn Bu, sm_vn L, sm_vn Lt, ag, sm_vn Nu, bx) (nI kd) (nI a) (nI b) (nI og) (nI su) (nI nu) := by
  refine sm_yfs hS hs hz hl (br_t (nI_pos' (by omega)) ?_)
  simp (disch := omega) only [sm_m10, sm_p1, sm_p2, sm_p3, sm_p4, sm_p5, sm_p6, sm_cl, sm_inT, true_and, forall_eq]
  exact ⟨4, sm_y108 (i := 0) (by omega) (by omega) (sm_y108 (i := 1) (by omega) (by omega) (sm_y108 (i := 2) (by omega) (by omega) (hp 0)))⟩
theorem sm_ysend0 {N S B T : Nat} {R Bu Lt Nu L : Nat → Nat} {yu ag bx : Nat → Int32} {post : SY → Prop} {kd a b og su nu : Int32} (hS : S ≤ 24) (hl : ∀ j, j < S → ¬ bx (10 * j) = 0) (hp : post (nI N, nI S, nI B, nI T, yu, sm_vn R, sm_vn Bu, sm_vn L, sm_vn Lt, ag, sm_vn Nu, bx)) : wpY_send post (nI N, nI S, nI B, nI T, yu, sm_vn R, sm_vn Bu, sm_vn L, sm_vn Lt, ag, sm_vn Nu, bx) kd a b og su nu := sm_yfs0 hS hl (br_f (by decide) hp)
section
variable {N S B T : Nat} {all up fr : Int32} {R Bu C Lt Nu L : Nat → Nat} {du nw al de wh dt ag xh xl yu bx : Nat → Int32} {a b s : Nat}
/-- the list gathered, from an empty one -/
theorem sm_coll (hN : N ≤ 8) (hB1 : 1 ≤ B) (hB6 : B ≤ 6) (hV : sm_V N R al de) (hB : sm_B N B Bu nw) (ha : a < N) (hb : b < N) (hs : s < 24) (hL : sm_LB s 0 (fun _ => 0) bx bx) : sm_OUT N S B T all up fr R C Lt Nu L du al de wh dt ag xh xl yu s bx
    (fun post => wpX_collectNews post (nI N, nI S, nI B, nI T, all, up, fr, sm_vn R, sm_vn Bu, du, nw, al, de, sm_vn C, wh, dt, sm_vn Lt, ag, sm_vn Nu, xh, xl) (nI a) (nI b))
    (fun post => ∀ n, wY_send_108 post (nI a) (nI b) (nI s) (nI N) (nI S) (nI B) (nI T) (n + 1) (nI 3) yu (sm_vn R) (sm_vn Bu) (sm_vn L) (sm_vn Lt) ag (sm_vn Nu) bx) := by
  have hbit := (hV.2 a ha b (by omega)).1
  have hR := hV.1 (8 * a + b)
  have eR : sm_vn R (8 * nI a + nI b).toNatClampNeg - sm_vn R (8 * nI a + nI b).toNatClampNeg / 3 * 3 = nI (R (8 * a + b) % 3) := by rw [sm_ix8, sm_cl (by omega), sm_va, sm_r3 (by omega)]
  have ev : vp_in (8 * nI a + nI b) 64 := by rw [sm_ix8]; exact sm_in (by omega) (by omega)
  have h3 : nI 3 ≤ nI 3 := by decide
  have hbb : ∀ k, Bu k < 8 := fun k => by have := hB.1 k; omega
  by_cases e : R (8 * a + b) % 3 = 0
  · have hq : sm_LQ N 0 (fun _ => 0) := ⟨by omega, fun i hi => absurd hi (by omega), fun _ _ => rfl⟩
    refine sm_OUTm (sm_news (b0 := bx) hN hB6 hV.1 ha hs B hB6 0 0 (fun _ => 0) Bu nw bx 0 ⟨hB, hq, hL, fun m hm => ?_, by omega, Or.inr (fun m hm => Or.inr (hB.1 _))⟩) (fun post hp => ?_) (fun post hp n => ?_)
    · rw [b_0]
      exact ⟨fun z => absurd z (by decide), fun ⟨i, hi, _⟩ => absurd hi (by omega)⟩
    · refine And.intro (sm_in (by omega) (by omega)) (sm_hT (by omega) ?_ ⟨B + 1, hp (B + 1) (by omega)⟩)
      rw [sm_cl (by omega), hbit, decide_eq_true ⟨hb, e⟩]
    · refine br_t h3 (And.intro ev (And.intro sm_n3 (br_t ?_ ⟨4, hp 4 (by omega)⟩)))
      rw [eR, e]
      rfl
  · obtain ⟨nw', hB', hTake⟩ := sm_xtk (R := R) hB hN hB6 ha hb
    have hu : (32 * b + R (8 * a + b)) / 32 = b := by omega
    have hq0 : sm_LQ N 0 (fun _ => 0) := ⟨by omega, fun i hi => absurd hi (by omega), fun _ _ => rfl⟩
    have hq : sm_LQ N 1 (sm_un (fun _ => 0) 0 (32 * b + R (8 * a + b))) := sm_LQu hq0 (by omega) (by omega) (by omega)
    have he3 : sm_e3 (sm_un (fun _ => 0) 0 (32 * b + R (8 * a + b))) = 32 * b + R (8 * a + b) := by
      unfold sm_e3
      rw [sm_us, sm_uo (by omega), sm_uo (by omega)]
      omega
    refine sm_OUTm (sm_news (b0 := bx) hN hB6 hV.1 ha hs B hB6 1 0 (sm_un (fun _ => 0) 0 (32 * b + R (8 * a + b))) (sm_un Bu (8 * a + b) (Bu (8 * a + b) - 1)) nw' (sm_ap s 0 (32 * b + R (8 * a + b)) bx) ((1 : Int32) <<< (nI b &&& 31)) ⟨hB', hq, sm_LBu hL (by omega), fun m hm => ?_, by omega, Or.inr (fun m hm => Or.inr (hB'.1 _))⟩) (fun post hp => ?_) (fun post hp n => ?_)
    · rw [sm_b1 (by omega) hm, decide_eq_true_eq, sm_tku (c := 0), hu]
      exact ⟨fun z => Or.inr z, fun z => z.resolve_left (fun ⟨i, hi, _⟩ => absurd hi (by omega))⟩
    · refine And.intro (sm_in (by omega) (by omega)) (sm_hF (by omega) ?_ (hTake (nm_e ⟨B + 1, ?_⟩)))
      · rw [sm_cl (by omega), hbit, decide_eq_false (fun z => e z.2)]
      · have := hp (B + 1) (by omega)
        rw [he3] at this
        exact this
    · refine br_t h3 (And.intro ev (And.intro sm_n3 (br_f ?_ ?_)))
      · rw [eR]
        exact sm_ne (b := 0) (by omega) (by omega) e
      · refine sm_yap (c := 0) (by omega) (by omega) hs (by omega) hL.1 (hbb _) ⟨4, hp 4 (by omega)⟩
end
theorem sm_Wc {N : Nat} {h l : Int32} {b b' : Nat → Int32} (e : ∀ j, j < 10 → b' j = b j) (hW : sm_W N h l b) : sm_W N h l b' := by
  obtain ⟨kd, fo, to, og, su, nu, c, q, h1, ⟨g0, g1, g2, g3, g4, g5⟩, g6, ⟨h2, h3⟩, h4, h5⟩ := hW
  refine ⟨kd, fo, to, og, su, nu, c, q, h1, ⟨?_, ?_, ?_, ?_, ?_, ?_⟩, ?_, ⟨h2, fun i hi => ⟨fun z => ⟨((h3 i hi).1 z).1, ((h3 i hi).1 z).2.1, ?_⟩, fun z => ⟨((h3 i hi).2 z).1, ?_⟩⟩⟩, h4, h5⟩
  · rw [e 0 (by omega)]; exact g0
  · rw [e 1 (by omega)]; exact g1
  · rw [e 2 (by omega)]; exact g2
  · rw [e 3 (by omega)]; exact g3
  · rw [e 4 (by omega)]; exact g4
  · rw [e 5 (by omega)]; exact g5
  · rw [e 6 (by omega)]; exact g6
  · show b' (7 + i) = _
    rw [e (7 + i) (by omega)]; exact ((h3 i hi).1 z).2.2
  · show b' (7 + i) = _
    rw [e (7 + i) (by omega)]; exact ((h3 i hi).2 z).2
/-- a message put into slot s -/
theorem sm_Mput {N S s kd fo to og su nu c : Nat} {q : Nat → Nat} {fr fr' : Int32} {xh xl bx bx' : Nat → Int32} (hM : sm_M N S fr xh xl bx) (hs : s < S) (hS : S ≤ 24) (hf : ∀ i, i < 32 → bt fr' i = (bt fr i && !decide (i = s))) (hH : sm_H N kd fo to og su nu) (hQ : sm_LQ N c q) (hL : sm_LB s c q bx' (sm_bh s (nI kd) (nI fo) (nI to) (nI og) (nI su) (nI nu) bx)) : sm_M N S fr' (upd xh s (nI (sm_eh kd fo to og su nu))) (upd xl s (nI (sm_e3 q + 16777216 * c))) bx' := by
  obtain ⟨l1, l2, l3⟩ := hL
  obtain ⟨v0, v1, v2, v3, v4, v5⟩ := sm_bhv (s := s) (v0 := nI kd) (v1 := nI fo) (v2 := nI to) (v3 := nI og) (v4 := nI su) (v5 := nI nu) (bx := bx)
  refine ⟨fun i hi hb => ?_, fun s' hs' => ?_⟩
  · rw [hf i hi, Bool.and_eq_true] at hb
    exact hM.1 i hi hb.1
  · by_cases e : s' = s
    · subst e
      have e0 : bx' (10 * s') = nI kd := by rw [l3 _ (by omega)]; exact v0
      have hk : ¬ nI kd = 0 := nI_ne0 hH.1 (by have := hH.2.1; omega)
      refine ⟨?_, fun _ => ?_⟩
      · rw [hf s' (by omega), e0, decide_eq_false hk]; simp
      · rw [pk_us, pk_us]
        refine ⟨kd, fo, to, og, su, nu, c, q, hH, ⟨e0, ?_, ?_, ?_, ?_, ?_⟩, l1, ⟨hQ.1, fun i hi => ⟨fun z => ⟨(hQ.2.1 i z).1, (hQ.2.1 i z).2, ?_⟩, fun z => ⟨hQ.2.2 i z, ?_⟩⟩⟩, rfl, rfl⟩
        · exact (l3 _ (by omega)).trans v1
        · exact (l3 _ (by omega)).trans v2
        · exact (l3 _ (by omega)).trans v3
        · exact (l3 _ (by omega)).trans v4
        · exact (l3 _ (by omega)).trans v5
        · show bx' (10 * s' + (7 + i)) = _
          rw [← Nat.add_assoc]; exact (l2 i hi).1 z
        · show bx' (10 * s' + (7 + i)) = _
          rw [← Nat.add_assoc]; exact (l2 i hi).2 z
    · have ef : ∀ j, j < 10 → bx' (10 * s' + j) = bx (10 * s' + j) := fun j hj => by rw [l3 _ (by omega), sm_bhf (by omega)]
      have e0 := ef 0 (by omega)
      rw [Nat.add_zero] at e0
      rw [pk_un e, pk_un e, e0, hf s' (by omega), (hM.2 s' hs').1]
      refine ⟨by simp [e], fun z => ?_⟩
      exact sm_Wc ef ((hM.2 s' hs').2 z)
theorem sm_frz {N S : Nat} {fr : Int32} {xh xl bx : Nat → Int32} (hM : sm_M N S fr xh xl bx) (hS : S ≤ 24) (hz : fr = 0) : ∀ j, j < S → ¬ bx (10 * j) = 0 := by
  intro j hj z
  have := (hM.2 j hj).1
  rw [hz, b_0, decide_eq_true z] at this
  exact absurd this (by decide)
theorem sm_frn {N S : Nat} {fr : Int32} {xh xl bx : Nat → Int32} (hM : sm_M N S fr xh xl bx) (hS : S ≤ 24) {s : Nat} (h1 : s < 32) (h2 : bt fr s = true) (h3 : ∀ j, j < s → bt fr j = false) : s < S ∧ bx (10 * s) = 0 ∧ ∀ j, j < s → ¬ bx (10 * j) = 0 := by
  have hs := hM.1 s h1 h2
  refine ⟨hs, ?_, fun j hj z => ?_⟩
  · have := (hM.2 s hs).1
    rw [h2] at this
    exact of_decide_eq_true this.symm
  · have := (hM.2 j (by omega)).1
    rw [h3 j hj, decide_eq_true z] at this
    exact absurd this (by decide)
/-- send, on both sides -/
theorem sm_send {N S B : Nat} {R Bu : Nat → Nat} {fr : Int32} {nw al de xh xl bx : Nat → Int32} (T : Nat) (all up : Int32) (C Lt Nu L : Nat → Nat) (du wh dt ag yu : Nat → Int32) {kd a b og su nu : Nat} (hC : sm_C N S B T) (hV : sm_V N R al de) (hB : sm_B N B Bu nw) (hM : sm_M N S fr xh xl bx) (hH : sm_H N kd a b og su nu) :
    ∃ (fr' : Int32) (Bu' : Nat → Nat) (nw' xh' xl' bx' : Nat → Int32), sm_B N B Bu' nw' ∧ sm_M N S fr' xh' xl' bx' ∧ (∀ post, post (nI N, nI S, nI B, nI T, all, up, fr', sm_vn R, sm_vn Bu', du, nw', al, de, sm_vn C, wh, dt, sm_vn Lt, ag, sm_vn Nu, xh', xl') → wpX_send post (nI N, nI S, nI B, nI T, all, up, fr, sm_vn R, sm_vn Bu, du, nw, al, de, sm_vn C, wh, dt, sm_vn Lt, ag, sm_vn Nu, xh, xl) (nI kd) (nI a) (nI b) (nI og) (nI su) (nI nu)) ∧ ∀ post, post (nI N, nI S, nI B, nI T, yu, sm_vn R, sm_vn Bu', sm_vn L, sm_vn Lt, ag, sm_vn Nu, bx') → wpY_send post (nI N, nI S, nI B, nI T, yu, sm_vn R, sm_vn Bu, sm_vn L, sm_vn Lt, ag, sm_vn Nu, bx) (nI kd) (nI a) (nI b) (nI og) (nI su) (nI nu) := by
  obtain ⟨c1, c2, c3, c4, c5, c6, c7, c8⟩ := hC
  by_cases hz : fr = 0
  · exact ⟨fr, Bu, nw, xh, xl, bx, hB, hM, fun post hp => br_t hz hp, fun post hp => sm_ysend0 c4 (sm_frz hM c4 hz) hp⟩
  · obtain ⟨s, h1, h2, h3, hlow⟩ := sm_low hz
    obtain ⟨hs, hz0, hl⟩ := sm_frn hM c4 h1 h2 h3
    obtain ⟨Bu', nw', c, q, bx', g1, g2, g3, gX, gY⟩ := sm_coll (S := S) (T := T) (all := all) (up := up) (fr := fr &&& (fr - 1)) (C := C) (Lt := Lt) (Nu := Nu) (L := L) (du := du) (wh := wh) (dt := dt) (ag := ag) (xh := upd xh s (nI (sm_eh kd a b og su nu))) (xl := xl) (yu := yu) c2 c5 c6 hV hB hH.2.2.1 hH.2.2.2.1 (s := s) (by omega) (sm_bhl (v0 := nI kd) (v1 := nI a) (v2 := nI b) (v3 := nI og) (v4 := nI su) (v5 := nI nu) (bx := bx))
    refine ⟨fr &&& (fr - 1), Bu', nw', _, _, bx', g1, sm_Mput hM hs c4 (fun i hi => sm_clow h1 h2 h3 hi) hH g2 g3, fun post hp => ?_, fun post hp => ?_⟩
    · refine br_f hz (hlow _ _ (nm_e (And.intro (sm_in (by omega) (by omega)) ?_)))
      rw [sm_ehw hH c2, sm_cl (by omega)]
      refine nm_e (gX _ ?_)
      exact And.intro (sm_in (by omega) (by omega)) (nm_e hp)
    · exact sm_ysend c4 hs hz0 hl (gY post hp)
end
end
section
section
def sm_R (N S B T : Nat) (all up fr : Int32) (R Bu C Lt Nu L : Nat → Nat) (du nw al de wh dt ag xh xl yu bx : Nat → Int32) : Prop := sm_C N S B T ∧ sm_A N all ∧ sm_U N up yu ∧ sm_V N R al de ∧ sm_B N B Bu nw ∧ sm_X N du wh dt ∧ sm_CK N C ∧ sm_K N T R L du (fun a _ => C a) ∧ sm_P N Lt Nu ag ∧ sm_M N S fr xh xl bx
/-! the reference's steps of the timers when none runs out -/
def sm_dl (a j : Nat) (L : Nat → Nat) : Nat → Nat := fun k => if 8 * a ≤ k ∧ k < 8 * a + j then L k - 1 else L k
theorem sm_dl0 {a : Nat} {L : Nat → Nat} : sm_dl a 0 L = L := by
  funext k
  exact if_neg (by omega)
theorem sm_dl1 {a j : Nat} {L : Nat → Nat} : sm_un (sm_dl a j L) (8 * a + j) (L (8 * a + j) - 1) = sm_dl a (j + 1) L := by
  funext k
  unfold sm_un sm_dl
  by_cases e : k = 8 * a + j
  · rw [if_pos e, if_pos (by omega), e]
  · rw [if_neg e]
    by_cases e2 : 8 * a ≤ k ∧ k < 8 * a + j
    · rw [if_pos e2, if_pos (by omega)]
    · rw [if_neg e2, if_neg (by omega)]
theorem sm_dlj {a j : Nat} {L : Nat → Nat} : sm_dl a j L (8 * a + j) = L (8 * a + j) := if_neg (by omega)
theorem sm_yq {N S B T : Nat} {R Bu Lt Nu L : Nat → Nat} {yu ag bx : Nat → Int32} {post : Int32 → SY → Prop} {a r : Nat} (hN : N ≤ 8) (ha : a < 8) (hL : ∀ m, m < N → ¬ L (8 * a + m) = 1 ∧ L (8 * a + m) ≤ 20) (hK : ∀ n, wY_step_4 post (nI a) (n + 1) (nI r) (nI N) (nI N) (nI S) (nI B) (nI T) yu (sm_vn R) (sm_vn Bu) (sm_vn (sm_dl a N L)) (sm_vn Lt) ag (sm_vn Nu) bx) : ∀ d j, j + d = N → wY_step_4 post (nI a) (d + 1) (nI r) (nI j) (nI N) (nI S) (nI B) (nI T) yu (sm_vn R) (sm_vn Bu) (sm_vn (sm_dl a j L)) (sm_vn Lt) ag (sm_vn Nu) bx := by
  intro d
  induction d with
  | zero =>
    intro j hj
    have e : j = N := by omega
    subst e
    exact hK 0
  | succ d ih =>
    intro j hj
    obtain ⟨h1, h2⟩ := hL j (by omega)
    have e1 := sm_dl1 (a := a) (j := j) (L := L)
    refine br_f (nI_ge (by omega) (by omega)) ?_
    rw [sm_ix8]
    refine And.intro (sm_in (by omega) (by omega)) ?_
    rw [sm_cl (by omega), sm_va, sm_dlj]
    by_cases e : L (8 * a + j) = 0
    · rw [sm_unid (by rw [sm_dlj]; omega)] at e1
      rw [e]
      refine br_t (show nI 0 ≤ 0 by decide) (nm_r (sm_p1 j) ?_)
      have := ih (j + 1) (by omega)
      rw [← e1] at this
      exact this
    · refine br_f (nI_nle (by omega) (by omega)) (And.intro (sm_in (by omega) (by omega)) (And.intro (sm_in (by omega) (by omega)) ?_))
      rw [sm_s1 (by omega), sm_vu, e1]
      refine nm_e (And.intro (sm_in (by omega) (by omega)) (br_f ?_ (nm_r (sm_p1 j) (ih (j + 1) (by omega)))))
      rw [← e1, sm_va, sm_us]
      exact nI_ne0 (by omega) (by omega)
theorem sm_unn {F : Nat → Nat} {k x y : Nat} : sm_un (sm_un F k x) k y = sm_un F k y := by
  funext j
  unfold sm_un
  split <;> rfl
/-! expire in lockstep -/
def sm_EO (N S B T : Nat) (all up fr : Int32) (C Lt Nu : Nat → Nat) (ag xh xl yu bx : Nat → Int32) (a : Nat) (WX : (Int32 → SX → Prop) → Prop) (WY : (Int32 → SY → Prop) → Prop) : Prop :=
  ∃ (r : Nat) (R Bu L : Nat → Nat) (du nw al de wh dt : Nat → Int32), sm_V N R al de ∧ sm_B N B Bu nw ∧ sm_X N du wh dt ∧ sm_K N T R L du (fun a _ => C a) ∧ (∀ post, post (nI r) (nI N, nI S, nI B, nI T, all, up, fr, sm_vn R, sm_vn Bu, du, nw, al, de, sm_vn C, wh, dt, sm_vn Lt, ag, sm_vn Nu, xh, xl) → WX post) ∧ ∀ post, (∀ n, wY_step_4 post (nI a) (n + 1) (nI r) (nI N) (nI N) (nI S) (nI B) (nI T) yu (sm_vn R) (sm_vn Bu) (sm_vn L) (sm_vn Lt) ag (sm_vn Nu) bx) → WY post
theorem sm_EOm {N S B T : Nat} {all up fr : Int32} {C Lt Nu : Nat → Nat} {ag xh xl yu bx : Nat → Int32} {a : Nat} {WX WX' : (Int32 → SX → Prop) → Prop} {WY WY' : (Int32 → SY → Prop) → Prop} (h : sm_EO N S B T all up fr C Lt Nu ag xh xl yu bx a WX WY) (f : ∀ post, WX post → WX' post) (g : ∀ post, WY post → WY' post) : sm_EO N S B T all up fr C Lt Nu ag xh xl yu bx a WX' WY' := by
  obtain ⟨r, R, Bu, L, du, nw, al, de, wh, dt, h1, h2, h3, h4, h5, h6⟩ := h
  exact ⟨r, R, Bu, L, du, nw, al, de, wh, dt, h1, h2, h3, h4, fun post hp => f post (h5 post hp), fun post hp => g post (h6 post hp)⟩
def sm_cj (C : Nat → Nat) (a c0 j : Nat) : Nat → Nat → Nat := fun a' m' => if a' = a ∧ j ≤ m' then c0 else C a'
theorem sm_Kg {N T a m l r : Nat} {R L : Nat → Nat} {du : Nat → Int32} {cf cf' : Nat → Nat → Nat} {d : Int32} (h : sm_K N T R L du cf) (hN : N ≤ 8) (hm : m < N) (hc : ∀ a' m', m' < N → ¬ (a' = a ∧ m' = m) → cf' a' m' = cf a' m') (hn : sm_K1 T (cf' a m) l r d) : sm_K N T (sm_un R (8 * a + m) r) (sm_un L (8 * a + m) l) (upd du (8 * a + m) d) cf' := by
  intro a' ha' m' hm'
  by_cases e : 8 * a' + m' = 8 * a + m
  · obtain ⟨rfl, rfl⟩ := sm_ih e (by omega) (by omega)
    rw [sm_us, sm_us, pk_us]
    exact hn
  · rw [sm_uo e, sm_uo e, pk_un e, hc a' m' hm' (by omega)]
    exact h a' ha' m' hm'
theorem sm_cjn {C : Nat → Nat} {a c0 j N : Nat} : ∀ a' m', m' < N → ¬ (a' = a ∧ m' = j) → sm_cj C a c0 (j + 1) a' m' = sm_cj C a c0 j a' m' := by
  intro a' m' _ h
  unfold sm_cj
  by_cases e : a' = a ∧ j ≤ m'
  · rw [if_pos e, if_pos (by omega)]
  · rw [if_neg e, if_neg (by omega)]
section
variable {N S B T : Nat} {all up fr : Int32} {C Lt Nu : Nat → Nat} {ag xh xl yu bx : Nat → Int32} {a c0 : Nat} {due : Int32}
theorem sm_exl (hC : sm_C N S B T) (ha : a < N) (hc0 : c0 < 32) (hca : C a = (c0 + 1) % 32) (hdz : ¬ due = 0) : ∀ (d j r : Nat) (R Bu L : Nat → Nat) (du nw al de wh dt : Nat → Int32), j + d = N → sm_V N R al de → sm_B N B Bu nw → sm_X N du wh dt → sm_K N T R L du (sm_cj C a c0 j) → (∀ m, j ≤ m → m < N → (bt due m = true ↔ du (8 * a + m) = nI ((c0 + 1) % 32))) → sm_EO N S B T all up fr C Lt Nu ag xh xl yu bx a
    (fun post => ∀ n, d < n → wX_expire_39 post (nI a) due n (nI r) (nI j) (nI N) (nI S) (nI B) (nI T) all up fr (sm_vn R) (sm_vn Bu) du nw al de (sm_vn C) wh dt (sm_vn Lt) ag (sm_vn Nu) xh xl)
    (fun post => ∀ n, d < n → wY_step_4 post (nI a) n (nI r) (nI j) (nI N) (nI S) (nI B) (nI T) yu (sm_vn R) (sm_vn Bu) (sm_vn L) (sm_vn Lt) ag (sm_vn Nu) bx) := by
  obtain ⟨c1, c2, c3, c4, c5, c6, c7, c8⟩ := hC
  intro d
  induction d with
  | zero =>
    intro j r R Bu L du nw al de wh dt hj hV hB hX hK hd
    have e : j = N := by omega
    subst e
    refine ⟨r, R, Bu, L, du, nw, al, de, wh, dt, hV, hB, hX, fun a' ha' m' hm' => ?_, fun post hp n hn => ?_, fun post hp n hn => ?_⟩
    · have := hK a' ha' m' hm'
      unfold sm_cj at this
      rw [if_neg (by omega)] at this
      exact this
    · obtain ⟨n', rfl⟩ : ∃ n', n = n' + 1 := ⟨n - 1, by omega⟩
      exact br_t (nI_le (Nat.le_refl _) (by omega)) hp
    · obtain ⟨n', rfl⟩ : ∃ n', n = n' + 1 := ⟨n - 1, by omega⟩
      exact hp n'
  | succ d ih =>
    intro j r R Bu L du nw al de wh dt hj hV hB hX hK hd
    have hk := hK a ha j (by omega)
    have ecj : sm_cj C a c0 j a j = c0 := if_pos ⟨rfl, Nat.le_refl _⟩
    have ecj1 : sm_cj C a c0 (j + 1) a j = (c0 + 1) % 32 := by
      unfold sm_cj
      rw [if_neg (by omega)]
      exact hca
    rw [ecj] at hk
    have hdj := hd j (Nat.le_refl _) (by omega)
    have hNj : ¬ nI N ≤ nI j := nI_ge (by omega) (by omega)
    have hRj := hV.1 (8 * a + j)
    have hLe : L (8 * a + j) ≤ 20 := by
      rcases hk with ⟨z, _⟩ | ⟨_, z, _⟩ <;> omega
    have ev : vp_in (nI (8 * a + j)) 64 := sm_in (by omega) (by omega)
    by_cases e1 : L (8 * a + j) = 1
    · -- the timer runs out now
      have hk2 : R (8 * a + j) % 3 = 1 ∧ du (8 * a + j) = nI ((c0 + L (8 * a + j)) % 32) := by
        rcases hk with ⟨z, _⟩ | ⟨_, _, z1, z2⟩
        · omega
        · exact ⟨z1, z2⟩
      rw [e1] at hk2
      have hbit : bt due j = true := hdj.mpr hk2.2
      have hD : sm_D (du (8 * a + j)) := Or.inr ⟨_, Nat.mod_lt _ (by omega), hk2.2⟩
      have hR29 : R (8 * a + j) + 1 ≤ 29 := by omega
      obtain ⟨al', de', nw', wh', dt', hV', hB', hX', hWX⟩ := sm_xraise (C := C) hV hB hX hD c2 c6 c8 (by rw [hca]; omega) ha (m := j) (by omega) hR29
      refine sm_EOm (ih (j + 1) (r + 1) _ _ (sm_un (sm_un L (8 * a + j) 0) (8 * a + j) (sm_nl ((R (8 * a + j) + 1) % 3) a j T)) _ nw' al' de' wh' dt' (by omega) hV' hB' hX' ?_ ?_) (fun post hp n hn => ?_) (fun post hp n hn => ?_)
      · rw [sm_unn]
        refine sm_Kg hK c2 (by omega) (sm_cjn (N := N)) ?_
        rw [ecj1, ← hca]
        exact sm_nK c7
      · intro m hm hm2
        rw [pk_un (by omega)]
        exact hd m (by omega) hm2
      · obtain ⟨n', rfl⟩ : ∃ n', n = n' + 1 := ⟨n - 1, by omega⟩
        refine br_f hNj (br_f hdz (sm_hT (by omega) hbit ?_))
        rw [sm_ix8]
        refine And.intro ev ?_
        rw [sm_cl (by omega), sm_va, sm_p1 (R (8 * a + j))]
        refine hWX ?_
        exact nm_r (sm_p1 r) (nm_r (sm_p1 j) (hp n' (by omega)))
      · obtain ⟨n', rfl⟩ : ∃ n', n = n' + 1 := ⟨n - 1, by omega⟩
        refine br_f hNj ?_
        rw [sm_ix8]
        refine And.intro ev ?_
        rw [sm_cl (by omega), sm_va, e1]
        refine br_f (by decide) (And.intro ev (And.intro ev ?_))
        rw [show nI 1 - 1 = nI 0 from rfl, sm_vu]
        refine nm_e (And.intro ev (br_t ?_ (And.intro ev ?_)))
        · rw [sm_va, sm_us]; rfl
        · rw [sm_va, sm_p1 (R (8 * a + j))]
          refine sm_yraise (by omega) (by omega) hR29 ?_
          exact nm_r (sm_p1 r) (nm_r (sm_p1 j) (hp n' (by omega)))
    · have hbit : bt due j = false := by
        cases z : bt due j
        · rfl
        · have z2 := hdj.mp z
          rcases hk with ⟨_, z3⟩ | ⟨y1, y2, _, z3⟩
          · rw [z3] at z2
            exact absurd z2 (sm_m1n (by omega))
          · rw [z3] at z2
            have := sm_ei z2 (by omega) (by omega)
            omega
      refine sm_EOm (ih (j + 1) r R Bu (sm_un L (8 * a + j) (L (8 * a + j) - 1)) du nw al de wh dt (by omega) hV hB hX ?_ ?_) (fun post hp n hn => ?_) (fun post hp n hn => ?_)
      · have := sm_Kg (cf' := sm_cj C a c0 (j + 1)) (m := j) (a := a) (r := R (8 * a + j)) (l := L (8 * a + j) - 1) (d := du (8 * a + j)) hK c2 (by omega) (sm_cjn (N := N)) ?_
        · rw [sm_unid rfl, sm_uid rfl] at this
          exact this
        · rw [ecj1]
          rcases hk with ⟨z1, z2⟩ | ⟨z1, z2, z3, z4⟩
          · exact Or.inl ⟨by omega, z2⟩
          · refine Or.inr ⟨by omega, by omega, z3, ?_⟩
            rw [z4]
            exact congrArg nI (by omega)
      · intro m hm hm2
        exact hd m (by omega) hm2
      · obtain ⟨n', rfl⟩ : ∃ n', n = n' + 1 := ⟨n - 1, by omega⟩
        exact br_f hNj (br_f hdz (sm_hF (by omega) hbit (nm_r (sm_p1 j) (hp n' (by omega)))))
      · obtain ⟨n', rfl⟩ : ∃ n', n = n' + 1 := ⟨n - 1, by omega⟩
        refine br_f hNj ?_
        rw [sm_ix8]
        refine And.intro ev ?_
        rw [sm_cl (by omega), sm_va]
        by_cases e0 : L (8 * a + j) = 0
        · rw [e0]
          refine br_t (show nI 0 ≤ 0 by decide) (nm_r (sm_p1 j) ?_)
          have := hp n' (by omega)
          rw [sm_unid (by omega)] at this
          exact this
        · refine br_f (nI_nle (by omega) (by omega)) (And.intro ev (And.intro ev ?_))
          rw [sm_s1 (by omega), sm_vu]
          refine nm_e (And.intro ev (br_f ?_ (nm_r (sm_p1 j) (hp n' (by omega)))))
          rw [sm_va, sm_us]
          exact nI_ne0 (by omega) (by omega)
end
/-- expire and the reference's scan of the timers -/
theorem sm_expire {N S B T : Nat} {all up fr : Int32} {R Bu C Lt Nu : Nat → Nat} {du nw al de wh dt ag xh xl : Nat → Int32} {yu : Nat → Int32} {L : Nat → Nat} {bx : Nat → Int32} {a : Nat} (h : sm_R N S B T all up fr R Bu C Lt Nu L du nw al de wh dt ag xh xl yu bx) (ha : a < N) : sm_EO N S B T all up fr (sm_un C a ((C a + 1) % 32)) Lt Nu ag xh xl yu bx a
    (fun post => wpX_expire post (nI N, nI S, nI B, nI T, all, up, fr, sm_vn R, sm_vn Bu, du, nw, al, de, sm_vn C, wh, dt, sm_vn Lt, ag, sm_vn Nu, xh, xl) (nI a))
    (fun post => wY_step_4 post (nI a) (N + 1) (nI 0) (nI 0) (nI N) (nI S) (nI B) (nI T) yu (sm_vn R) (sm_vn Bu) (sm_vn L) (sm_vn Lt) ag (sm_vn Nu) bx) := by
  obtain ⟨hC, hA, hU, hV, hB, hX, hCK, hK, hP, hM⟩ := h
  have hC' := hC
  obtain ⟨c1, c2, c3, c4, c5, c6, c7, c8⟩ := hC'
  have hca := hCK a ha
  have hw : ∀ post, (∀ due, due = wh (32 * a + (C a + 1) % 32) → ∃ n, wX_expire_39 post (nI a) due n (nI 0) (nI 0) (nI N) (nI S) (nI B) (nI T) all up fr (sm_vn R) (sm_vn Bu) du nw al de (sm_vn (sm_un C a ((C a + 1) % 32))) wh dt (sm_vn Lt) ag (sm_vn Nu) xh xl) → wpX_expire post (nI N, nI S, nI B, nI T, all, up, fr, sm_vn R, sm_vn Bu, du, nw, al, de, sm_vn C, wh, dt, sm_vn Lt, ag, sm_vn Nu, xh, xl) (nI a) := by
    intro post hp
    refine And.intro (sm_in (by omega) (by omega)) (And.intro (sm_in (by omega) (by omega)) ?_)
    rw [sm_cl (by omega), sm_va, sm_p1, sm_m31 (by omega), sm_vu]
    refine nm_e (And.intro (sm_in (by omega) (by omega)) ?_)
    rw [sm_va, sm_us, sm_ix32]
    refine And.intro (sm_in (by omega) (by omega)) ?_
    rw [sm_cl (by omega)]
    exact hp
  have hbit : ∀ m, m < N → (bt (wh (32 * a + (C a + 1) % 32)) m = true ↔ du (8 * a + m) = nI ((C a + 1) % 32)) := by
    intro m hm
    rw [hX.1 a ha _ (Nat.mod_lt _ (by omega)) m (by omega), decide_eq_true_eq]
    exact ⟨fun z => z.2, fun z => ⟨hm, z⟩⟩
  by_cases hz : wh (32 * a + (C a + 1) % 32) = 0
  · have hno : ∀ m, m < N → ¬ L (8 * a + m) = 1 ∧ L (8 * a + m) ≤ 20 := by
      intro m hm
      have hk := hK a ha m hm
      constructor
      · intro e
        have hb := hbit m hm
        rw [hz, b_0] at hb
        rcases hk with ⟨z, _⟩ | ⟨_, _, _, z⟩
        · omega
        · dsimp only at z
          rw [e] at z
          exact absurd (hb.mpr z) (by decide)
      · rcases hk with ⟨z, _⟩ | ⟨_, z, _⟩ <;> omega
    refine ⟨0, R, Bu, sm_dl a N L, du, nw, al, de, wh, dt, hV, hB, hX, fun a' ha' m' hm' => ?_, fun post hp => hw post (fun due hd => ⟨1, ?_⟩), fun post hp => ?_⟩
    · have hk := hK a' ha' m' hm'
      by_cases e : a' = a
      · subst e
        dsimp only at hk ⊢
        rw [sm_us]
        have e2 : sm_dl a' N L (8 * a' + m') = L (8 * a' + m') - 1 := if_pos (by omega)
        rw [e2]
        have := hno m' hm'
        rcases hk with ⟨z1, z2⟩ | ⟨z1, z2, z3, z4⟩
        · exact Or.inl ⟨by omega, z2⟩
        · refine Or.inr ⟨by omega, by omega, z3, ?_⟩
          rw [z4]
          exact congrArg nI (by omega)
      · dsimp only
        rw [sm_uo e]
        have e2 : sm_dl a N L (8 * a' + m') = L (8 * a' + m') := if_neg (by omega)
        rw [e2]
        exact hk
    · exact br_f (nI_ge (by omega) (by omega)) (br_t (by rw [hd, hz]) hp)
    · have := sm_yq (r := 0) c2 (by omega) hno hp N 0 (by omega)
      rw [sm_dl0] at this
      exact this
  · refine sm_EOm (sm_exl (C := sm_un C a ((C a + 1) % 32)) (c0 := C a) hC ha hca sm_us hz N 0 0 R Bu L du nw al de wh dt (by omega) hV hB hX (fun a' ha' m' hm' => ?_) (fun m _ hm => hbit m hm)) (fun post hp => hw post (fun due hd => ⟨N + 1, ?_⟩)) (fun post hp => hp (N + 1) (by omega))
    · have hk := hK a' ha' m' hm'
      unfold sm_cj
      by_cases e : a' = a
      · rw [if_pos ⟨e, by omega⟩, ← e]
        exact hk
      · rw [if_neg (fun z => e z.1), sm_uo e]
        exact hk
    · rw [hd]
      exact hp (N + 1) (by omega)
end
end
section
section
/-! the cyclic order -/
def sm_el (N t k : Nat) : Nat := if t + k < N then t + k else t + k - N
theorem sm_elc (N t k : Nat) : (t + k < N ∧ sm_el N t k = t + k) ∨ (¬ t + k < N ∧ sm_el N t k = t + k - N) := by
  unfold sm_el
  by_cases h : t + k < N
  · exact Or.inl ⟨h, if_pos h⟩
  · exact Or.inr ⟨h, if_neg h⟩
/-! openProbe -/
theorem sm_y103 {N S B T : Nat} {R Bu Lt Nu L : Nat → Nat} {yu ag bx : Nat → Int32} {post : Int32 → SY → Prop} {r : Int32} {a t k n : Nat} (hN : N ≤ 8) (ht : t < N) (hk : k ≤ N) (h : wY_step_139 post (wY_step_103 post (nI a) r (nI t) (nI N) (nI S) (nI B) (nI T) yu (sm_vn R) (sm_vn Bu) (sm_vn L) (sm_vn Lt) ag (sm_vn Nu) bx n) (nI a) r (nI t) (nI k) (nI (sm_el N t k)) (nI N) (nI S) (nI B) (nI T) yu (sm_vn R) (sm_vn Bu) (sm_vn L) (sm_vn Lt) ag (sm_vn Nu) bx) : wY_step_103 post (nI a) r (nI t) (nI N) (nI S) (nI B) (nI T) yu (sm_vn R) (sm_vn Bu) (sm_vn L) (sm_vn Lt) ag (sm_vn Nu) bx (n + 1) (nI k) := by
  refine br_f (nI_nlt hk (by omega)) ?_
  unfold sm_el at h
  by_cases e : t + k < N
  · rw [if_pos e] at h
    refine br_t ?_ ?_
    · rw [nI_add]; exact nI_lt e (by omega)
    · rw [nI_add]; exact h
  · rw [if_neg e] at h
    refine br_f ?_ ?_
    · rw [nI_add]; exact nI_nlt (by omega) (by omega)
    · rw [nI_add, pk_sub (by omega)]; exact h
theorem sm_y139m {N S B T : Nat} {R Bu Lt Nu L : Nat → Nat} {yu ag bx : Nat → Int32} {post : Int32 → SY → Prop} {J : Int32 → Prop} {r t : Int32} {a k e : Nat} (ha : a < 8) (he : e < 8) (hR : R (8 * a + e) ≤ 29) (hm : e = a ∨ R (8 * a + e) % 3 = 2) (h : J (nI (k + 1))) : wY_step_139 post J (nI a) r t (nI k) (nI e) (nI N) (nI S) (nI B) (nI T) yu (sm_vn R) (sm_vn Bu) (sm_vn L) (sm_vn Lt) ag (sm_vn Nu) bx := by
  by_cases ea : e = a
  · exact br_t (by rw [ea]) (nm_r (sm_p1 k) h)
  · refine br_f (sm_ne (by omega) (by omega) ea) ?_
    rw [sm_ix8]
    refine And.intro (sm_in (by omega) (by omega)) (And.intro sm_n3 ?_)
    rw [sm_cl (by omega), sm_va, sm_r3 (by omega), hm.resolve_left ea]
    exact br_t rfl (nm_r (sm_p1 k) h)
theorem sm_y139h {N S B T : Nat} {R Bu Lt Nu L : Nat → Nat} {yu ag bx : Nat → Int32} {post : Int32 → SY → Prop} {J : Int32 → Prop} {r t k : Int32} {a e : Nat} (ha : a < 8) (he : e < 8) (hR : R (8 * a + e) ≤ 29) (hn : Nu a < 64) (ea : ¬ e = a) (h2 : ¬ R (8 * a + e) % 3 = 2) (h : wpY_send (fun v => post r v) (nI N, nI S, nI B, nI T, yu, sm_vn R, sm_vn Bu, sm_vn L, sm_vn (sm_un Lt a e), upd ag a 0, sm_vn (sm_un Nu a ((Nu a + 1) % 64)), bx) (nI 1) (nI a) (nI e) (nI a) (nI e) (nI ((Nu a + 1) % 64))) : wY_step_139 post J (nI a) r t k (nI e) (nI N) (nI S) (nI B) (nI T) yu (sm_vn R) (sm_vn Bu) (sm_vn L) (sm_vn Lt) ag (sm_vn Nu) bx := by
  refine br_f (sm_ne (by omega) (by omega) ea) ?_
  rw [sm_ix8]
  refine And.intro (sm_in (by omega) (by omega)) (And.intro sm_n3 ?_)
  rw [sm_cl (k := 8 * a + e) (by omega), sm_va, sm_r3 (by omega)]
  refine br_f (sm_ne (b := 2) (by omega) (by omega) h2) ?_
  simp (disch := omega) only [sm_cl, sm_inT, sm_va, sm_p1, sm_r64, sm_vu, sm_us, true_and, forall_eq]
  exact And.intro sm_n64 h
theorem sm_tgb {N a : Nat} {all : Int32} {R : Nat → Nat} {al de : Nat → Int32} (hN : N ≤ 8) (hA : sm_A N all) (hV : sm_V N R al de) (ha : a < N) (i : Nat) (hi : i < 32) : bt ((all &&& (de a ^^^ (-1))) &&& (((1 : Int32) <<< (nI a &&& 31)) ^^^ (-1))) i = true ↔ i < N ∧ ¬ R (8 * a + i) % 3 = 2 ∧ ¬ i = a := by
  rw [b_and, b_and, sm_not _ hi, sm_not _ hi, sm_b1 (by omega) hi, hA i hi, (hV.2 a ha i hi).2]
  simp only [Bool.and_eq_true, Bool.not_eq_true', decide_eq_true_eq, decide_eq_false_iff_not]
  constructor
  · rintro ⟨⟨h1, h2⟩, h3⟩
    exact ⟨h1, fun z => h2 ⟨h1, z⟩, h3⟩
  · rintro ⟨h1, h2, h3⟩
    exact ⟨⟨h1, fun z => h2 z.2⟩, h3⟩
theorem sm_bf {b : Bool} (h : b = false) : ¬ b = true := by rw [h]; decide
theorem sm_open {N S B T : Nat} {all up fr : Int32} {R Bu C Lt Nu : Nat → Nat} {du nw al de wh dt ag xh xl : Nat → Int32} {yu : Nat → Int32} {L : Nat → Nat} {bx : Nat → Int32} {a : Nat} (h : sm_R N S B T all up fr R Bu C Lt Nu L du nw al de wh dt ag xh xl yu bx) (ha : a < N) :
    ∃ (fr' : Int32) (Bu' Lt' Nu' : Nat → Nat) (nw' ag' xh' xl' bx' : Nat → Int32), sm_B N B Bu' nw' ∧ sm_P N Lt' Nu' ag' ∧ sm_M N S fr' xh' xl' bx' ∧ (∀ post, post (nI N, nI S, nI B, nI T, all, up, fr', sm_vn R, sm_vn Bu', du, nw', al, de, sm_vn C, wh, dt, sm_vn Lt', ag', sm_vn Nu', xh', xl') → wpX_openProbe post (nI N, nI S, nI B, nI T, all, up, fr, sm_vn R, sm_vn Bu, du, nw, al, de, sm_vn C, wh, dt, sm_vn Lt, ag, sm_vn Nu, xh, xl) (nI a)) ∧ ∀ post r, post r (nI N, nI S, nI B, nI T, yu, sm_vn R, sm_vn Bu', sm_vn L, sm_vn Lt', ag', sm_vn Nu', bx') → ∃ n, wY_step_103 post (nI a) r (nI (Lt a)) (nI N) (nI S) (nI B) (nI T) yu (sm_vn R) (sm_vn Bu) (sm_vn L) (sm_vn Lt) ag (sm_vn Nu) bx n 1 := by
  obtain ⟨hC, hA, hU, hV, hB, hX, hCK, hK, hP, hM⟩ := h
  have hC' := hC
  obtain ⟨c1, c2, c3, c4, c5, c6, c7, c8⟩ := hC'
  obtain ⟨p1, p2, p3⟩ := hP a ha
  have htg := sm_tgb c2 hA hV ha
  by_cases hz : (all &&& (de a ^^^ (-1))) &&& (((1 : Int32) <<< (nI a &&& 31)) ^^^ (-1)) = 0
  · refine ⟨fr, Bu, Lt, Nu, nw, ag, xh, xl, bx, hB, hP, hM, fun post hp => ?_, fun post r hp => ⟨N + 1, ?_⟩⟩
    · refine And.intro (sm_in (by omega) (by omega)) ?_
      rw [sm_cl (by omega)]
      exact br_t hz hp
    · have key : ∀ d k, k + d = N + 1 → wY_step_103 post (nI a) r (nI (Lt a)) (nI N) (nI S) (nI B) (nI T) yu (sm_vn R) (sm_vn Bu) (sm_vn L) (sm_vn Lt) ag (sm_vn Nu) bx (d + 1) (nI k) := by
        intro d
        induction d with
        | zero =>
          intro k hk
          exact br_t (nI_lt (by omega) (by omega)) hp
        | succ d ih =>
          intro k hk
          have hc := sm_elc N (Lt a) k
          have he : sm_el N (Lt a) k < N := by omega
          have hf : ¬ bt ((all &&& (de a ^^^ (-1))) &&& (((1 : Int32) <<< (nI a &&& 31)) ^^^ (-1))) (sm_el N (Lt a) k) = true := by rw [hz, b_0]; decide
          rw [htg _ (by omega)] at hf
          refine sm_y103 c2 p1 (by omega) (sm_y139m (by omega) (by omega) (hV.1 _) ?_ (ih (k + 1) (by omega)))
          by_cases e1 : sm_el N (Lt a) k = a
          · exact Or.inl e1
          · exact Or.inr (Classical.byContradiction fun z => hf ⟨he, z, e1⟩)
      exact key N 1 (by omega)
  · obtain ⟨m, ⟨m1, m2, m3⟩, hnx⟩ := sm_next (t := Lt a) hz (by omega)
    obtain ⟨q1, q2, q3⟩ := (htg m m1).mp m2
    have hnu : (Nu a + 1) % 64 < 64 := Nat.mod_lt _ (by omega)
    have hH : sm_H N 1 a m a m ((Nu a + 1) % 64) := ⟨by omega, by omega, ha, q1, ha, q1, hnu⟩
    obtain ⟨fr', Bu', nw', xh', xl', bx', g1, g2, gX, gY⟩ := sm_send T all up C (sm_un Lt a m) (sm_un Nu a ((Nu a + 1) % 64)) L du wh dt (upd ag a 0) yu hC hV hB hM hH
    refine ⟨fr', Bu', sm_un Lt a m, sm_un Nu a ((Nu a + 1) % 64), nw', upd ag a 0, xh', xl', bx', g1, fun a' ha' => ?_, g2, fun post hp => ?_, fun post r hp => ?_⟩
    · by_cases e : a' = a
      · rw [e, sm_us, sm_us, pk_us]
        exact ⟨q1, hnu, Or.inr ⟨0, by omega, rfl⟩⟩
      · rw [sm_uo e, sm_uo e, pk_un e]
        exact hP a' ha'
    · refine And.intro (sm_in (by omega) (by omega)) ?_
      rw [sm_cl (by omega)]
      refine br_f hz (And.intro (sm_in (by omega) (by omega)) ?_)
      rw [sm_va]
      refine hnx _ _ ?_
      simp (disch := omega) only [sm_inT, sm_va, sm_p1, sm_r64, sm_vu, sm_us, true_and, forall_eq]
      exact And.intro sm_n64 (gX _ hp)
    · have key : ∀ kk, kk ≤ N → sm_el N (Lt a) kk = m → (∀ k, 1 ≤ k → k < kk → sm_el N (Lt a) k = a ∨ R (8 * a + sm_el N (Lt a) k) % 3 = 2) → ∀ d k, 1 ≤ k → k + d = kk → wY_step_103 post (nI a) r (nI (Lt a)) (nI N) (nI S) (nI B) (nI T) yu (sm_vn R) (sm_vn Bu) (sm_vn L) (sm_vn Lt) ag (sm_vn Nu) bx (d + 1) (nI k) := by
        intro kk hkk hm hmiss d
        induction d with
        | zero =>
          intro k hk1 hk
          have e : k = kk := by omega
          subst e
          refine sm_y103 c2 p1 hkk ?_
          rw [hm]
          exact sm_y139h (by omega) (by omega) (hV.1 _) p2 q3 q2 (gY _ hp)
        | succ d ih =>
          intro k hk1 hk
          have hc := sm_elc N (Lt a) k
          exact sm_y103 c2 p1 (by omega) (sm_y139m (by omega) (by omega) (hV.1 _) (hmiss k hk1 (by omega)) (ih (k + 1) (by omega) (by omega)))
      have miss : ∀ j, j < N → bt ((all &&& (de a ^^^ (-1))) &&& (((1 : Int32) <<< (nI a &&& 31)) ^^^ (-1))) j = false → j = a ∨ R (8 * a + j) % 3 = 2 := by
        intro j hj hf
        have hf' := sm_bf hf
        rw [htg j (by omega)] at hf'
        by_cases e1 : j = a
        · exact Or.inl e1
        · exact Or.inr (Classical.byContradiction fun z => hf' ⟨hj, z, e1⟩)
      rcases m3 with ⟨m4, m5⟩ | ⟨m4, m5, m6⟩
      · have hc := sm_elc N (Lt a) (m - Lt a)
        refine ⟨m - Lt a - 1 + 1, key (m - Lt a) (by omega) (by omega) (fun k hk1 hk => ?_) (m - Lt a - 1) 1 (by omega) (by omega)⟩
        have hc := sm_elc N (Lt a) k
        exact miss _ (by omega) (m5 _ (by omega) (by omega))
      · have hc := sm_elc N (Lt a) (m + N - Lt a)
        refine ⟨m + N - Lt a - 1 + 1, key (m + N - Lt a) (by omega) (by omega) (fun k hk1 hk => ?_) (m + N - Lt a - 1) 1 (by omega) (by omega)⟩
        have hc := sm_elc N (Lt a) k
        rcases hc with hc | hc
        · exact miss _ (by omega) (m5 _ (by omega) (by omega))
        · exact miss _ (by omega) (m6 _ (by omega))
end
end
section
section
/-! askHelpers -/
theorem sm_y250 {N S B T : Nat} {R Bu Lt Nu L : Nat → Nat} {yu ag bx : Nat → Int32} {post : Int32 → SY → Prop} {r : Int32} {a t k n i : Nat} (hN : N ≤ 8) (ht : t < N) (hk : k < N) (h : wY_step_286 post (wY_step_250 post (nI a) r (nI t) n) (nI a) r (nI t) (nI i) (nI k) (nI (sm_el N t k)) (nI N) (nI S) (nI B) (nI T) yu (sm_vn R) (sm_vn Bu) (sm_vn L) (sm_vn Lt) ag (sm_vn Nu) bx) : wY_step_250 post (nI a) r (nI t) (n + 1) (nI i) (nI k) (nI N) (nI S) (nI B) (nI T) yu (sm_vn R) (sm_vn Bu) (sm_vn L) (sm_vn Lt) ag (sm_vn Nu) bx := by
  refine br_f (nI_ge hk (by omega)) ?_
  unfold sm_el at h
  by_cases e : t + k < N
  · rw [if_pos e] at h
    refine br_t ?_ ?_
    · rw [nI_add]; exact nI_lt e (by omega)
    · rw [nI_add]; exact h
  · rw [if_neg e] at h
    refine br_f ?_ ?_
    · rw [nI_add]; exact nI_nlt (by omega) (by omega)
    · rw [nI_add, pk_sub (by omega)]; exact h
theorem sm_y286m {N S B T : Nat} {R Bu Lt Nu L : Nat → Nat} {yu ag bx : Nat → Int32} {post : Int32 → SY → Prop} {J : Int32 → Int32 → Int32 → Int32 → Int32 → Int32 → (Nat → Int32) → (Nat → Int32) → (Nat → Int32) → (Nat → Int32) → (Nat → Int32) → (Nat → Int32) → (Nat → Int32) → (Nat → Int32) → Prop} {r t : Int32} {a i k e : Nat} (ha : a < 8) (he : e < 8) (hi : i ≤ 2) (hR : R (8 * a + e) ≤ 29) (hm : i = 2 ∨ e = a ∨ ¬ R (8 * a + e) % 3 = 0) (h : J (nI i) (nI (k + 1)) (nI N) (nI S) (nI B) (nI T) yu (sm_vn R) (sm_vn Bu) (sm_vn L) (sm_vn Lt) ag (sm_vn Nu) bx) : wY_step_286 post J (nI a) r t (nI i) (nI k) (nI e) (nI N) (nI S) (nI B) (nI T) yu (sm_vn R) (sm_vn Bu) (sm_vn L) (sm_vn Lt) ag (sm_vn Nu) bx := by
  by_cases ei : i = 2
  · subst ei
    exact br_t (show nI 2 ≤ nI 2 by decide) (nm_r (sm_p1 k) h)
  · refine br_f (nI_ge (b := 2) (by omega) (by decide)) ?_
    by_cases ea : e = a
    · exact br_t (by rw [ea]) (nm_r (sm_p1 k) h)
    · refine br_f (sm_ne (by omega) (by omega) ea) ?_
      rw [sm_ix8]
      refine And.intro (sm_in (by omega) (by omega)) (And.intro sm_n3 ?_)
      rw [sm_cl (by omega), sm_va, sm_r3 (by omega)]
      exact br_f (sm_ne (b := 0) (by omega) (by omega) ((hm.resolve_left ei).resolve_left ea)) (nm_r (sm_p1 k) h)
theorem sm_y286h {N S B T : Nat} {R Bu Lt Nu L : Nat → Nat} {yu ag bx : Nat → Int32} {post : Int32 → SY → Prop} {J : Int32 → Int32 → Int32 → Int32 → Int32 → Int32 → (Nat → Int32) → (Nat → Int32) → (Nat → Int32) → (Nat → Int32) → (Nat → Int32) → (Nat → Int32) → (Nat → Int32) → (Nat → Int32) → Prop} {r : Int32} {a i k e t : Nat} {Bu' : Nat → Nat} {bx' : Nat → Int32} (ha : a < 8) (he : e < 8) (hi : i < 2) (hR : R (8 * a + e) ≤ 29) (ea : ¬ e = a) (h0 : R (8 * a + e) % 3 = 0) (hs : ∀ post, post (nI N, nI S, nI B, nI T, yu, sm_vn R, sm_vn Bu', sm_vn L, sm_vn Lt, ag, sm_vn Nu, bx') → wpY_send post (nI N, nI S, nI B, nI T, yu, sm_vn R, sm_vn Bu, sm_vn L, sm_vn Lt, ag, sm_vn Nu, bx) (nI 2) (nI a) (nI e) (nI a) (nI t) (nI (Nu a))) (h : J (nI (i + 1)) (nI (k + 1)) (nI N) (nI S) (nI B) (nI T) yu (sm_vn R) (sm_vn Bu') (sm_vn L) (sm_vn Lt) ag (sm_vn Nu) bx') : wY_step_286 post J (nI a) r (nI t) (nI i) (nI k) (nI e) (nI N) (nI S) (nI B) (nI T) yu (sm_vn R) (sm_vn Bu) (sm_vn L) (sm_vn Lt) ag (sm_vn Nu) bx := by
  refine br_f (nI_ge (b := 2) (by omega) (by decide)) (br_f (sm_ne (by omega) (by omega) ea) ?_)
  rw [sm_ix8]
  refine And.intro (sm_in (by omega) (by omega)) (And.intro sm_n3 ?_)
  rw [sm_cl (k := 8 * a + e) (by omega), sm_va, sm_r3 (by omega), h0]
  refine br_t rfl (nm_r (sm_p1 i) (And.intro (sm_in (by omega) (by omega)) ?_))
  rw [sm_cl (by omega), sm_va]
  exact hs _ (nm_r (sm_p1 k) h)
/-- from k to p nothing happens -/
theorem sm_y250m {N S B T : Nat} {R Bu Lt Nu L : Nat → Nat} {yu ag bx : Nat → Int32} {post : Int32 → SY → Prop} {r : Int32} {a t i p : Nat} (hN : N ≤ 8) (ha : a < N) (ht : t < N) (hp : p ≤ N) (hi : i ≤ 2) (hR : ∀ k, R k ≤ 29) (h : ∀ n, N - p < n → wY_step_250 post (nI a) r (nI t) n (nI i) (nI p) (nI N) (nI S) (nI B) (nI T) yu (sm_vn R) (sm_vn Bu) (sm_vn L) (sm_vn Lt) ag (sm_vn Nu) bx) : ∀ d k, k + d = p → (∀ k', k ≤ k' → k' < p → i = 2 ∨ sm_el N t k' = a ∨ ¬ R (8 * a + sm_el N t k') % 3 = 0) → ∀ n, N - k < n → wY_step_250 post (nI a) r (nI t) n (nI i) (nI k) (nI N) (nI S) (nI B) (nI T) yu (sm_vn R) (sm_vn Bu) (sm_vn L) (sm_vn Lt) ag (sm_vn Nu) bx := by
  intro d
  induction d with
  | zero =>
    intro k hk _ n hn
    have e : k = p := by omega
    subst e
    exact h n hn
  | succ d ih =>
    intro k hk hm n hn
    obtain ⟨n', rfl⟩ : ∃ n', n = n' + 1 := ⟨n - 1, by omega⟩
    have hc := sm_elc N t k
    exact sm_y250 hN ht (by omega) (sm_y286m (by omega) (by omega) hi (hR _) (hm k (Nat.le_refl _) (by omega)) (ih (k + 1) (by omega) (fun k' h1 h2 => hm k' (by omega) h2) n' (by omega)))
def sm_AO (N S B T : Nat) (all up : Int32) (R C Lt Nu L : Nat → Nat) (du al de wh dt ag yu : Nat → Int32) (a t : Nat) (WX : (SX → Prop) → Prop) (WY : (Int32 → SY → Prop) → Int32 → Prop) : Prop :=
  ∃ (fr : Int32) (Bu : Nat → Nat) (nw xh xl bx : Nat → Int32), sm_B N B Bu nw ∧ sm_M N S fr xh xl bx ∧ (∀ post, post (nI N, nI S, nI B, nI T, all, up, fr, sm_vn R, sm_vn Bu, du, nw, al, de, sm_vn C, wh, dt, sm_vn Lt, ag, sm_vn Nu, xh, xl) → WX post) ∧ ∀ post r, wY_step_342 post (nI a) r (nI t) (nI N) (nI S) (nI B) (nI T) yu (sm_vn R) (sm_vn Bu) (sm_vn L) (sm_vn Lt) ag (sm_vn Nu) bx → WY post r
theorem sm_AOm {N S B T : Nat} {all up : Int32} {R C Lt Nu L : Nat → Nat} {du al de wh dt ag yu : Nat → Int32} {a t : Nat} {WX WX' : (SX → Prop) → Prop} {WY WY' : (Int32 → SY → Prop) → Int32 → Prop} (h : sm_AO N S B T all up R C Lt Nu L du al de wh dt ag yu a t WX WY) (f : ∀ post, WX post → WX' post) (g : ∀ post r, WY post r → WY' post r) : sm_AO N S B T all up R C Lt Nu L du al de wh dt ag yu a t WX' WY' := by
  obtain ⟨fr, Bu, nw, xh, xl, bx, h1, h2, h3, h4⟩ := h
  exact ⟨fr, Bu, nw, xh, xl, bx, h1, h2, fun post hp => f post (h3 post hp), fun post r hp => g post r (h4 post r hp)⟩
section
variable {N S B T : Nat} {all up : Int32} {R C Lt Nu L : Nat → Nat} {du al de wh dt ag yu : Nat → Int32} {a t : Nat}
theorem sm_ask_l (hC : sm_C N S B T) (hV : sm_V N R al de) (ha : a < N) (ht : t < N) (hn : Nu a < 64) : ∀ (e i k h : Nat) (cand fr : Int32) (Bu : Nat → Nat) (nw xh xl bx : Nat → Int32), i + e = 2 → 1 ≤ k → k ≤ N → h = sm_el N t (k - 1) → (∀ j, j < 32 → (bt cand j = true ↔ j < N ∧ R (8 * a + j) % 3 = 0 ∧ ¬ j = a ∧ ∃ p, k ≤ p ∧ p < N ∧ j = sm_el N t p)) → sm_B N B Bu nw → sm_M N S fr xh xl bx → sm_AO N S B T all up R C Lt Nu L du al de wh dt ag yu a t
    (fun post => ∀ n, e < n → wX_askHelpers_32 post (nI a) (nI t) n cand (nI h) (nI i) (nI N) (nI S) (nI B) (nI T) all up fr (sm_vn R) (sm_vn Bu) du nw al de (sm_vn C) wh dt (sm_vn Lt) ag (sm_vn Nu) xh xl)
    (fun post r => ∀ n, N - k < n → wY_step_250 post (nI a) r (nI t) n (nI i) (nI k) (nI N) (nI S) (nI B) (nI T) yu (sm_vn R) (sm_vn Bu) (sm_vn L) (sm_vn Lt) ag (sm_vn Nu) bx) := by
  have hC' := hC
  obtain ⟨c1, c2, c3, c4, c5, c6, c7, c8⟩ := hC'
  intro e
  induction e with
  | zero =>
    intro i k h cand fr Bu nw xh xl bx hi hk1 hk hh hc hB hM
    have e2 : i = 2 := by omega
    subst e2
    refine ⟨fr, Bu, nw, xh, xl, bx, hB, hM, fun post hp n hn => ?_, fun post r hp n hn => ?_⟩
    · obtain ⟨n', rfl⟩ : ∃ n', n = n' + 1 := ⟨n - 1, by omega⟩
      exact br_t (show nI 2 ≤ nI 2 by decide) hp
    · refine sm_y250m c2 ha ht (Nat.le_refl _) (by omega) hV.1 (fun n hn => ?_) (N - k) k (by omega) (fun k' _ _ => Or.inl rfl) n hn
      obtain ⟨n', rfl⟩ : ∃ n', n = n' + 1 := ⟨n - 1, by omega⟩
      exact br_t (nI_le (Nat.le_refl _) (by omega)) hp
  | succ e ih =>
    intro i k h cand fr Bu nw xh xl bx hi hk1 hk hh hc hB hM
    have hi2 : ¬ (2 : Int32) ≤ nI i := nI_ge (b := 2) (by omega) (by decide)
    by_cases hz : cand = 0
    · refine ⟨fr, Bu, nw, xh, xl, bx, hB, hM, fun post hp n hn => ?_, fun post r hp n hn => ?_⟩
      · obtain ⟨n', rfl⟩ : ∃ n', n = n' + 1 := ⟨n - 1, by omega⟩
        exact br_f hi2 (br_t hz hp)
      · refine sm_y250m c2 ha ht (Nat.le_refl _) (by omega) hV.1 (fun n hn => ?_) (N - k) k (by omega) (fun k' h1 h2 => ?_) n hn
        · obtain ⟨n', rfl⟩ : ∃ n', n = n' + 1 := ⟨n - 1, by omega⟩
          exact br_t (nI_le (Nat.le_refl _) (by omega)) hp
        · have hel := sm_elc N t k'
          have hf : ¬ bt cand (sm_el N t k') = true := by rw [hz, b_0]; decide
          rw [hc _ (by omega)] at hf
          refine Or.inr ?_
          by_cases e1 : sm_el N t k' = a
          · exact Or.inl e1
          · exact Or.inr (fun z => hf ⟨by omega, z, e1, k', h1, h2, rfl⟩)
    · have hel1 := sm_elc N t (k - 1)
      obtain ⟨m, ⟨m1, m2, m3⟩, hnx⟩ := sm_next (t := h) hz (by omega)
      obtain ⟨q1, q2, q3, p, q4, q5, q6⟩ := (hc m m1).mp m2
      have hH : sm_H N 2 a m a t (Nu a) := ⟨by omega, by omega, ha, q1, ha, ht, hn⟩
      obtain ⟨fr', Bu', nw', xh', xl', bx', g1, g2, gX, gY⟩ := sm_send T all up C Lt Nu L du wh dt ag yu hC hV hB hM hH
      have help := sm_elc N t p
      refine sm_AOm (ih (i + 1) (p + 1) m (sm_cb cand m) fr' Bu' nw' xh' xl' bx' (by omega) (by omega) (by omega) (by rw [Nat.add_sub_cancel]; exact q6) ?_ g1 g2) (fun post hp n hn => ?_) (fun post r hp n hn => ?_)
      · intro j hj
        rw [sm_cbb cand m1 hj, Bool.and_eq_true, hc j hj, Bool.not_eq_true', decide_eq_false_iff_not]
        constructor
        · rintro ⟨⟨z1, z2, z3, p', z4, z5, z6⟩, z7⟩
          refine ⟨z1, z2, z3, p', ?_, z5, z6⟩
          have hel' := sm_elc N t p'
          apply Classical.byContradiction
          intro hlt
          have hjf : bt cand j = true := (hc j hj).mpr ⟨z1, z2, z3, p', z4, z5, z6⟩
          have hne : ¬ p' = p := fun z => z7 (by rw [z6, z, q6])
          rcases m3 with ⟨m4, m5⟩ | ⟨m4, m5, m6⟩
          · have := m5 j (by omega) (by omega)
            rw [this] at hjf
            exact absurd hjf (by decide)
          · by_cases hjh : h < j
            · rw [m5 j hjh hj] at hjf
              exact absurd hjf (by decide)
            · rw [m6 j (by omega)] at hjf
              exact absurd hjf (by decide)
        · rintro ⟨z1, z2, z3, p', z4, z5, z6⟩
          have hel' := sm_elc N t p'
          exact ⟨⟨z1, z2, z3, p', by omega, z5, z6⟩, by omega⟩
      · obtain ⟨n', rfl⟩ : ∃ n', n = n' + 1 := ⟨n - 1, by omega⟩
        refine br_f hi2 (br_f hz (hnx _ _ (nm_e (And.intro (sm_in (by omega) (by omega)) ?_))))
        rw [sm_cl (by omega), sm_va]
        exact gX _ (nm_r (sm_p1 i) (hp n' (by omega)))
      · refine sm_y250m c2 ha ht (p := p) (by omega) (by omega) hV.1 (fun n hn => ?_) (p - k) k (by omega) (fun k' h1 h2 => ?_) n hn
        · obtain ⟨n', rfl⟩ : ∃ n', n = n' + 1 := ⟨n - 1, by omega⟩
          refine sm_y250 c2 ht q5 ?_
          rw [← q6]
          exact sm_y286h (by omega) (by omega) (by omega) (hV.1 _) q3 q2 gY (hp n' (by omega))
        · have hel' := sm_elc N t k'
          refine Or.inr ?_
          by_cases e1 : sm_el N t k' = a
          · exact Or.inl e1
          · refine Or.inr (fun z => ?_)
            have hjf : bt cand (sm_el N t k') = true := (hc _ (by omega)).mpr ⟨by omega, z, e1, k', h1, by omega, rfl⟩
            rcases m3 with ⟨m4, m5⟩ | ⟨m4, m5, m6⟩
            · rw [m5 _ (by omega) (by omega)] at hjf
              exact absurd hjf (by decide)
            · by_cases hjh : h < sm_el N t k'
              · rw [m5 _ hjh (by omega)] at hjf
                exact absurd hjf (by decide)
              · rw [m6 _ (by omega)] at hjf
                exact absurd hjf (by decide)
theorem sm_ask {fr : Int32} {Bu : Nat → Nat} {nw xh xl bx : Nat → Int32} (hC : sm_C N S B T) (hV : sm_V N R al de) (hB : sm_B N B Bu nw) (hM : sm_M N S fr xh xl bx) (ha : a < N) (ht : Lt a < N) (hn : Nu a < 64) : sm_AO N S B T all up R C Lt Nu L du al de wh dt ag yu a (Lt a)
    (fun post => wpX_askHelpers post (nI N, nI S, nI B, nI T, all, up, fr, sm_vn R, sm_vn Bu, du, nw, al, de, sm_vn C, wh, dt, sm_vn Lt, ag, sm_vn Nu, xh, xl) (nI a))
    (fun post r => ∃ n, wY_step_250 post (nI a) r (nI (Lt a)) n 0 1 (nI N) (nI S) (nI B) (nI T) yu (sm_vn R) (sm_vn Bu) (sm_vn L) (sm_vn Lt) ag (sm_vn Nu) bx) := by
  have hC' := hC
  obtain ⟨c1, c2, c3, c4, c5, c6, c7, c8⟩ := hC'
  have h0 := sm_elc N (Lt a) 0
  refine sm_AOm (sm_ask_l (all := all) (up := up) (C := C) (Lt := Lt) (L := L) (du := du) (wh := wh) (dt := dt) (ag := ag) (yu := yu) (T := T) hC hV ha ht hn 2 0 1 (Lt a) ((al a &&& (((1 : Int32) <<< (nI a &&& 31)) ^^^ (-1))) &&& (((1 : Int32) <<< (nI (Lt a) &&& 31)) ^^^ (-1))) fr Bu nw xh xl bx (by omega) (by omega) (by omega) ?_ ?_ hB hM) (fun post hp => ?_) (fun post r hp => ⟨N, hp N (by omega)⟩)
  · show Lt a = sm_el N (Lt a) 0
    omega
  · intro j hj
    rw [b_and, b_and, sm_not _ hj, sm_not _ hj, sm_b1 (by omega) hj, sm_b1 (by omega) hj, (hV.2 a ha j hj).1]
    simp only [Bool.and_eq_true, Bool.not_eq_true', decide_eq_true_eq, decide_eq_false_iff_not]
    constructor
    · rintro ⟨⟨⟨z1, z2⟩, z3⟩, z4⟩
      refine ⟨z1, z2, z3, ?_⟩
      by_cases e : Lt a < j
      · have hel := sm_elc N (Lt a) (j - Lt a)
        exact ⟨j - Lt a, by omega, by omega, by omega⟩
      · have hel := sm_elc N (Lt a) (j + N - Lt a)
        exact ⟨j + N - Lt a, by omega, by omega, by omega⟩
    · rintro ⟨z1, z2, z3, p, z4, z5, z6⟩
      have hel := sm_elc N (Lt a) p
      exact ⟨⟨⟨z1, z2⟩, z3⟩, by omega⟩
  · refine And.intro (sm_in (by omega) (by omega)) ?_
    rw [sm_cl (by omega), sm_va]
    exact nm_e (And.intro (sm_in (by omega) (by omega)) (nm_e ⟨3, hp 3 (by omega)⟩))
end
end
end
section
section
def sm_I (N S B T : Nat) (all up : Int32) (yu : Nat → Int32) (u : SX) (v : SY) : Prop := ∃ (fr : Int32) (R Bu C Lt Nu L : Nat → Nat) (du nw al de wh dt ag xh xl bx : Nat → Int32), sm_R N S B T all up fr R Bu C Lt Nu L du nw al de wh dt ag xh xl yu bx ∧ u = (nI N, nI S, nI B, nI T, all, up, fr, sm_vn R, sm_vn Bu, du, nw, al, de, sm_vn C, wh, dt, sm_vn Lt, ag, sm_vn Nu, xh, xl) ∧ v = (nI N, nI S, nI B, nI T, yu, sm_vn R, sm_vn Bu, sm_vn L, sm_vn Lt, ag, sm_vn Nu, bx)
theorem sm_Ii {N S B T : Nat} {all up fr : Int32} {R Bu C Lt Nu : Nat → Nat} {du nw al de wh dt ag xh xl : Nat → Int32} {yu : Nat → Int32} {L : Nat → Nat} {bx : Nat → Int32} (h : sm_R N S B T all up fr R Bu C Lt Nu L du nw al de wh dt ag xh xl yu bx) : sm_I N S B T all up yu (nI N, nI S, nI B, nI T, all, up, fr, sm_vn R, sm_vn Bu, du, nw, al, de, sm_vn C, wh, dt, sm_vn Lt, ag, sm_vn Nu, xh, xl) (nI N, nI S, nI B, nI T, yu, sm_vn R, sm_vn Bu, sm_vn L, sm_vn Lt, ag, sm_vn Nu, bx) := ⟨fr, R, Bu, C, Lt, Nu, L, du, nw, al, de, wh, dt, ag, xh, xl, bx, h, rfl, rfl⟩
theorem sm_Ie {N S B T : Nat} {all up : Int32} {yu : Nat → Int32} {P : SX → SY → Prop} {u : SX} {v : SY} (I : sm_I N S B T all up yu u v) (h : ∀ (fr : Int32) (R Bu C Lt Nu L : Nat → Nat) (du nw al de wh dt ag xh xl bx : Nat → Int32), sm_R N S B T all up fr R Bu C Lt Nu L du nw al de wh dt ag xh xl yu bx → P (nI N, nI S, nI B, nI T, all, up, fr, sm_vn R, sm_vn Bu, du, nw, al, de, sm_vn C, wh, dt, sm_vn Lt, ag, sm_vn Nu, xh, xl) (nI N, nI S, nI B, nI T, yu, sm_vn R, sm_vn Bu, sm_vn L, sm_vn Lt, ag, sm_vn Nu, bx)) : P u v := by
  obtain ⟨fr, R, Bu, C, Lt, Nu, L, du, nw, al, de, wh, dt, ag, xh, xl, bx, hR, e1, e2⟩ := I
  rw [e1, e2]
  exact h fr R Bu C Lt Nu L du nw al de wh dt ag xh xl bx hR
/-- one outcome of a call with a counted answer -/
def sm_SO (N S B T : Nat) (all up : Int32) (yu : Nat → Int32) (WX : (Int32 → SX → Prop) → Prop) (WY : (Int32 → SY → Prop) → Prop) : Prop := ∃ (r : Nat) (u : SX) (v : SY), sm_I N S B T all up yu u v ∧ (∀ post, post (nI r) u → WX post) ∧ ∀ post, post (nI r) v → WY post
/-- the probe that fails, or not yet -/
theorem sm_fail {N S B T : Nat} {all up fr : Int32} {R Bu C Lt Nu : Nat → Nat} {du nw al de wh dt ag xh xl : Nat → Int32} {yu : Nat → Int32} {L : Nat → Nat} {bx : Nat → Int32} {a : Nat} (hC : sm_C N S B T) (hA : sm_A N all) (hU : sm_U N up yu) (hV : sm_V N R al de) (hB : sm_B N B Bu nw) (hX : sm_X N du wh dt) (hCK : sm_CK N C) (hK : sm_K N T R L du (fun a _ => C a)) (hP : sm_P N Lt Nu (upd ag a (-1))) (hM : sm_M N S fr xh xl bx) (ha : a < N) (hag : ag a = nI 5) (r : Nat) : sm_SO N S B T all up yu
    (fun post => wX_step_47 post (nI a) (nI r) (nI N) (nI S) (nI B) (nI T) all up fr (sm_vn R) (sm_vn Bu) du nw al de (sm_vn C) wh dt (sm_vn Lt) ag (sm_vn Nu) xh xl)
    (fun post => wY_step_342 post (nI a) (nI r) (nI (Lt a)) (nI N) (nI S) (nI B) (nI T) yu (sm_vn R) (sm_vn Bu) (sm_vn L) (sm_vn Lt) ag (sm_vn Nu) bx) := by
  have hC' := hC
  obtain ⟨c1, c2, c3, c4, c5, c6, c7, c8⟩ := hC'
  obtain ⟨p1, p2, p3⟩ := hP a ha
  have hbit := (hV.2 a ha (Lt a) (by omega)).1
  have hRt := hV.1 (8 * a + Lt a)
  have va : vp_in (nI a) 8 := sm_in (by omega) (by omega)
  have ev : vp_in (nI (8 * a + Lt a)) 64 := sm_in (by omega) (by omega)
  by_cases e : R (8 * a + Lt a) % 3 = 0
  · obtain ⟨al', de', nw', wh', dt', hV', hB', hX', hWX⟩ := sm_xraise (C := C) hV hB hX (sm_K1D (hK a ha (Lt a) p1)) c2 c6 c8 (hCK a ha) ha p1 (r := R (8 * a + Lt a) + 1) (by omega)
    refine ⟨r + 1, _, _, sm_Ii ⟨hC, hA, hU, hV', hB', hX', hCK, sm_Ku (l := sm_nl ((R (8 * a + Lt a) + 1) % 3) a (Lt a) T) hK c2 p1 (sm_nK c7), hP, hM⟩, fun post hp => ?_, fun post hp => ?_⟩
    · refine And.intro va (br_f ?_ (And.intro va ?_))
      · rw [sm_cl (by omega), hag]; decide
      · rw [sm_cl (by omega), sm_va]
        refine nm_e (And.intro va (nm_e (And.intro va (sm_hT (by omega) ?_ ?_))))
        · rw [hbit, decide_eq_true ⟨p1, e⟩]
        · rw [sm_ix8]
          refine And.intro ev ?_
          rw [sm_cl (by omega), sm_va, sm_p1 (R (8 * a + Lt a))]
          refine hWX ?_
          exact nm_r (sm_p1 r) hp
    · refine And.intro va (br_t ?_ (And.intro va ?_))
      · rw [sm_cl (by omega), hag]; rfl
      · rw [sm_cl (by omega), sm_ix8]
        refine nm_e (And.intro ev (And.intro sm_n3 ?_))
        rw [sm_cl (by omega), sm_va, sm_r3 (by omega), e]
        refine br_t rfl (And.intro ev ?_)
        rw [sm_p1 (R (8 * a + Lt a))]
        refine sm_yraise (by omega) (by omega) (by omega) ?_
        exact nm_r (sm_p1 r) hp
  · refine ⟨r, _, _, sm_Ii ⟨hC, hA, hU, hV, hB, hX, hCK, hK, hP, hM⟩, fun post hp => ?_, fun post hp => ?_⟩
    · refine And.intro va (br_f ?_ (And.intro va ?_))
      · rw [sm_cl (by omega), hag]; decide
      · rw [sm_cl (by omega), sm_va]
        refine nm_e (And.intro va (nm_e (And.intro va (sm_hF (by omega) ?_ ?_))))
        · rw [hbit, decide_eq_false (fun z => e z.2)]
        · exact nm_r (e' := nI r) (nI_add r 0) hp
    · refine And.intro va (br_t ?_ (And.intro va ?_))
      · rw [sm_cl (by omega), hag]; rfl
      · rw [sm_cl (by omega), sm_ix8]
        refine nm_e (And.intro ev (And.intro sm_n3 ?_))
        rw [sm_cl (by omega), sm_va, sm_r3 (by omega)]
        exact br_f (sm_ne (b := 0) (by omega) (by omega) e) hp
/-- no failure yet -/
theorem sm_nofail {N S B T : Nat} {all up fr : Int32} {R Bu C Lt Nu : Nat → Nat} {du nw al de wh dt ag xh xl : Nat → Int32} {yu : Nat → Int32} {L : Nat → Nat} {bx : Nat → Int32} {a g : Nat} (ha : a < 8) (hg : g < 5) (hag : ag a = nI g) (r : Int32) : (∀ post : Int32 → SX → Prop, post r (nI N, nI S, nI B, nI T, all, up, fr, sm_vn R, sm_vn Bu, du, nw, al, de, sm_vn C, wh, dt, sm_vn Lt, ag, sm_vn Nu, xh, xl) → wX_step_47 post (nI a) r (nI N) (nI S) (nI B) (nI T) all up fr (sm_vn R) (sm_vn Bu) du nw al de (sm_vn C) wh dt (sm_vn Lt) ag (sm_vn Nu) xh xl) ∧ ∀ (post : Int32 → SY → Prop) (t : Int32), post r (nI N, nI S, nI B, nI T, yu, sm_vn R, sm_vn Bu, sm_vn L, sm_vn Lt, ag, sm_vn Nu, bx) → wY_step_342 post (nI a) r t (nI N) (nI S) (nI B) (nI T) yu (sm_vn R) (sm_vn Bu) (sm_vn L) (sm_vn Lt) ag (sm_vn Nu) bx := by
  have va : vp_in (nI a) 8 := sm_in (by omega) (by omega)
  refine ⟨fun post hp => And.intro va (br_t ?_ hp), fun post t hp => And.intro va (br_f ?_ hp)⟩
  · rw [sm_cl (by omega), hag]; exact nI_lt (b := 5) hg (by decide)
  · rw [sm_cl (by omega), hag]; exact sm_ne (b := 5) (by omega) (by omega) (by omega)
theorem sm_step {N S B T : Nat} {all up fr : Int32} {R Bu C Lt Nu : Nat → Nat} {du nw al de wh dt ag xh xl : Nat → Int32} {yu : Nat → Int32} {L : Nat → Nat} {bx : Nat → Int32} {a : Nat} (h : sm_R N S B T all up fr R Bu C Lt Nu L du nw al de wh dt ag xh xl yu bx) (ha : a < N) : sm_SO N S B T all up yu
    (fun post => wpX_step post (nI N, nI S, nI B, nI T, all, up, fr, sm_vn R, sm_vn Bu, du, nw, al, de, sm_vn C, wh, dt, sm_vn Lt, ag, sm_vn Nu, xh, xl) (nI a)) (fun post => wpY_step post (nI N, nI S, nI B, nI T, yu, sm_vn R, sm_vn Bu, sm_vn L, sm_vn Lt, ag, sm_vn Nu, bx) (nI a)) := by
  obtain ⟨r, R', Bu', L', du', nw', al', de', wh', dt', hV', hB', hX', hK', hEX, hEY⟩ := sm_expire h ha
  obtain ⟨hC, hA, hU, hV, hB, hX, hCK, hK, hP, hM⟩ := h
  have hC' := hC
  obtain ⟨c1, c2, c3, c4, c5, c6, c7, c8⟩ := hC'
  have va : vp_in (nI a) 8 := sm_in (by omega) (by omega)
  have hCK' : sm_CK N (sm_un C a ((C a + 1) % 32)) := by
    intro a' ha'
    by_cases e : a' = a
    · rw [e, sm_us]; exact Nat.mod_lt _ (by omega)
    · rw [sm_uo e]; exact hCK a' ha'
  have hR' : sm_R N S B T all up fr R' Bu' (sm_un C a ((C a + 1) % 32)) Lt Nu L' du' nw' al' de' wh' dt' ag xh xl yu bx := ⟨hC, hA, hU, hV', hB', hX', hCK', hK', hP, hM⟩
  obtain ⟨p1, p2, p3⟩ := hP a ha
  have hNN : nI N ≤ nI N := nI_le (Nat.le_refl _) (by omega)
  rcases p3 with p3 | ⟨g, hg, p3⟩
  · obtain ⟨fr2, Bu2, Lt2, Nu2, nw2, ag2, xh2, xl2, bx2, g1, g2, g3, gX, gY⟩ := sm_open hR' ha
    refine ⟨r, _, _, sm_Ii ⟨hC, hA, hU, hV', g1, hX', hCK', hK', g2, g3⟩, fun post hp => hEX _ (And.intro va (br_f ?_ (gX _ hp))), fun post hp => ⟨N + 1, hEY post (fun n => br_t hNN (And.intro va ?_))⟩⟩
    · rw [sm_cl (by omega), p3]; decide
    · rw [sm_cl (by omega), sm_va]
      exact nm_e (And.intro va (br_t p3 (gY post _ hp)))
  · have ea : upd ag a (nI g + 1) = upd ag a (nI (g + 1)) := by rw [sm_p1]
    have hP1 : ∀ x, (x = -1 ∨ ∃ g, g ≤ 4 ∧ x = nI g) → sm_P N Lt Nu (upd ag a x) := by
      intro x hx a' ha'
      by_cases e : a' = a
      · rw [e, pk_us]; exact ⟨p1, p2, hx⟩
      · rw [pk_un e]; exact hP a' ha'
    have hX0 : (0 : Int32) ≤ ag a := by rw [p3]; exact nI_pos' (by omega)
    have hY0 : ¬ ag a = -1 := by rw [p3]; exact sm_nm1 (by omega)
    by_cases e2 : g + 1 = 2
    · obtain ⟨fr2, Bu2, nw2, xh2, xl2, bx2, g1, g2, gX, gY⟩ := sm_ask (all := all) (up := up) (C := sm_un C a ((C a + 1) % 32)) (L := L') (du := du') (wh := wh') (dt := dt') (ag := upd ag a (nI (g + 1))) (yu := yu) (T := T) hC hV' hB' hM ha p1 p2
      have nf := sm_nofail (N := N) (S := S) (B := B) (T := T) (all := all) (up := up) (fr := fr2) (R := R') (Bu := Bu2) (C := sm_un C a ((C a + 1) % 32)) (Lt := Lt) (Nu := Nu) (L := L') (du := du') (nw := nw2) (al := al') (de := de') (wh := wh') (dt := dt') (ag := upd ag a (nI (g + 1))) (xh := xh2) (xl := xl2) (yu := yu) (bx := bx2) (a := a) (g := g + 1) (by omega) (by omega) pk_us (nI r)
      refine ⟨r, _, _, sm_Ii ⟨hC, hA, hU, hV', g1, hX', hCK', hK', hP1 (nI (g + 1)) (Or.inr ⟨g + 1, by omega, rfl⟩), g2⟩, fun post hp => hEX _ (And.intro va ?_), fun post hp => ⟨N + 1, hEY post (fun n => br_t hNN (And.intro va ?_))⟩⟩
      · rw [sm_cl (by omega)]
        refine br_t hX0 (And.intro va (And.intro va ?_))
        rw [p3, ea]
        refine nm_e (And.intro va (br_t ?_ (gX _ (nf.1 post hp))))
        rw [pk_us, e2]; rfl
      · rw [sm_cl (by omega), sm_va]
        refine nm_e (And.intro va (br_f hY0 (And.intro va (And.intro va ?_))))
        rw [p3, ea]
        refine nm_e (And.intro va (br_t ?_ (gY post _ (nf.2 post _ hp))))
        rw [pk_us, e2]; rfl
    · have hn2 : ¬ upd ag a (nI (g + 1)) a = 2 := by rw [pk_us]; exact sm_ne (b := 2) (by omega) (by omega) e2
      have fin : sm_SO N S B T all up yu (fun post => wX_step_47 post (nI a) (nI r) (nI N) (nI S) (nI B) (nI T) all up fr (sm_vn R') (sm_vn Bu') du' nw' al' de' (sm_vn (sm_un C a ((C a + 1) % 32))) wh' dt' (sm_vn Lt) (upd ag a (nI (g + 1))) (sm_vn Nu) xh xl) (fun post => wY_step_342 post (nI a) (nI r) (nI (Lt a)) (nI N) (nI S) (nI B) (nI T) yu (sm_vn R') (sm_vn Bu') (sm_vn L') (sm_vn Lt) (upd ag a (nI (g + 1))) (sm_vn Nu) bx) := by
        by_cases e5 : g + 1 = 5
        · refine sm_fail hC hA hU hV' hB' hX' hCK' hK' ?_ hM ha (by rw [pk_us, e5]) r
          rw [sm_uu]
          exact hP1 _ (Or.inl rfl)
        · have nf := sm_nofail (N := N) (S := S) (B := B) (T := T) (all := all) (up := up) (fr := fr) (R := R') (Bu := Bu') (C := sm_un C a ((C a + 1) % 32)) (Lt := Lt) (Nu := Nu) (L := L') (du := du') (nw := nw') (al := al') (de := de') (wh := wh') (dt := dt') (ag := upd ag a (nI (g + 1))) (xh := xh) (xl := xl) (yu := yu) (bx := bx) (a := a) (g := g + 1) (by omega) (by omega) pk_us (nI r)
          exact ⟨r, _, _, sm_Ii ⟨hC, hA, hU, hV', hB', hX', hCK', hK', hP1 (nI (g + 1)) (Or.inr ⟨g + 1, by omega, rfl⟩), hM⟩, nf.1, fun post hp => nf.2 post _ hp⟩
      obtain ⟨r2, u2, v2, i2, fX, fY⟩ := fin
      refine ⟨r2, u2, v2, i2, fun post hp => hEX _ (And.intro va ?_), fun post hp => ⟨N + 1, hEY post (fun n => br_t hNN (And.intro va ?_))⟩⟩
      · rw [sm_cl (by omega)]
        refine br_t hX0 (And.intro va (And.intro va ?_))
        rw [p3, ea]
        exact nm_e (And.intro va (br_f hn2 (fX post hp)))
      · rw [sm_cl (by omega), sm_va]
        refine nm_e (And.intro va (br_f hY0 (And.intro va (And.intro va ?_))))
        rw [p3, ea]
        exact nm_e (And.intro va (br_f hn2 (fY post hp)))
end
end
section
section
/-! quiet steps -/
theorem sm_rot1 : ∀ c, c < 32 → (((32 : Int32) - nI c) &&& 31) = nI ((32 - c) % 32) := by decide +kernel
theorem sm_rot {x : Int32} {c : Nat} (hc : c < 32) {j : Nat} (hj : j < 32) : bt (((x.toUInt32 >>> ((nI c).toUInt32 &&& Int32.toUInt32 31)).toInt32) ||| (x <<< ((((32 : Int32) - nI c) &&& 31) &&& 31))) j = bt x ((c + j) % 32) := by
  rw [b_or, b_ushr c hc, sm_rot1 c hc, b_shl _ (Nat.mod_lt _ (by omega)) _ hj]
  by_cases e : c = 0
  · subst e
    rw [show (32 - 0) % 32 = 0 by omega, show (0 + j) % 32 = j by omega, Nat.zero_add, Nat.sub_zero, decide_eq_true (Nat.zero_le j)]
    cases bt x j <;> rfl
  · rw [show (32 - c) % 32 = 32 - c by omega]
    by_cases e2 : c + j < 32
    · rw [decide_eq_false (show ¬ 32 - c ≤ j by omega), show (c + j) % 32 = c + j by omega]
      simp
    · rw [decide_eq_true (show 32 - c ≤ j by omega), b_big (by omega), show (c + j) % 32 = j - (32 - c) by omega]
      simp
theorem sm_std {N S B T : Nat} {all up fr : Int32} {R Bu C Lt Nu : Nat → Nat} {du nw al de wh dt ag xh xl : Nat → Int32} {L : Nat → Nat} {a : Nat} (hC : sm_C N S B T) (hX : sm_X N du wh dt) (hCK : sm_CK N C) (hK : sm_K N T R L du (fun a _ => C a)) (ha : a < N) : ∃ d, 1 ≤ d ∧ d ≤ 64 ∧ (∀ m, m < N → L (8 * a + m) = 0 ∨ d ≤ L (8 * a + m)) ∧ ∀ post, post (nI d) → wpX_stepsToDue post (nI N, nI S, nI B, nI T, all, up, fr, sm_vn R, sm_vn Bu, du, nw, al, de, sm_vn C, wh, dt, sm_vn Lt, ag, sm_vn Nu, xh, xl) (nI a) := by
  obtain ⟨c1, c2, c3, c4, c5, c6, c7, c8⟩ := hC
  have hc := hCK a ha
  have va : vp_in (nI a) 8 := sm_in (by omega) (by omega)
  have hrun : ∀ m, m < N → ¬ L (8 * a + m) = 0 → 1 ≤ L (8 * a + m) ∧ L (8 * a + m) ≤ 20 ∧ bt (dt a) ((C a + L (8 * a + m)) % 32) = true := by
    intro m hm hl
    rcases hK a ha m hm with ⟨z, _⟩ | ⟨z1, z2, z3, z4⟩
    · exact absurd z hl
    · dsimp only at z4
      refine ⟨z1, by omega, ?_⟩
      rw [hX.2 a ha _ (Nat.mod_lt _ (by omega)), decide_eq_true_eq]
      refine sm_nz1 (i := m) ?_
      rw [hX.1 a ha _ (Nat.mod_lt _ (by omega)) m (by omega), decide_eq_true ⟨hm, z4⟩]
  by_cases hz : dt a = 0
  · refine ⟨64, by omega, by omega, fun m hm => ?_, fun post hp => And.intro va ?_⟩
    · by_cases hl : L (8 * a + m) = 0
      · exact Or.inl hl
      · have := (hrun m hm hl).2.2
        rw [hz, b_0] at this
        exact absurd this (by decide)
    · rw [sm_cl (by omega)]
      exact nm_e (br_t hz hp)
  · have hr : ∀ j, j < 32 → bt ((((dt a).toUInt32 >>> ((nI (C a)).toUInt32 &&& Int32.toUInt32 31)).toInt32) ||| (dt a <<< ((((32 : Int32) - nI (C a)) &&& 31) &&& 31))) j = bt (dt a) ((C a + j) % 32) := fun j hj => sm_rot hc hj
    have hnz : ¬ (((dt a).toUInt32 >>> ((nI (C a)).toUInt32 &&& Int32.toUInt32 31)).toInt32) ||| (dt a <<< ((((32 : Int32) - nI (C a)) &&& 31) &&& 31)) = 0 := by
      obtain ⟨t, ht, hb⟩ := sm_nz hz
      refine sm_nz1 (i := (t + 32 - C a) % 32) ?_
      rw [hr _ (Nat.mod_lt _ (by omega)), show (C a + (t + 32 - C a) % 32) % 32 = t by omega]
      exact hb
    obtain ⟨d, d1, d2, d3, hlow⟩ := sm_low hnz
    refine ⟨d, ?_, by omega, fun m hm => ?_, fun post hp => And.intro va ?_⟩
    · apply Classical.byContradiction
      intro hd
      have hd0 : d = 0 := by omega
      subst hd0
      rw [hr 0 (by omega), show (C a + 0) % 32 = C a by omega, hX.2 a ha _ hc, decide_eq_true_eq] at d2
      obtain ⟨i, hi, hb⟩ := sm_nz d2
      rw [hX.1 a ha _ hc i hi, decide_eq_true_eq] at hb
      obtain ⟨hiN, hdu⟩ := hb
      rcases hK a ha i hiN with ⟨_, z⟩ | ⟨z1, z2, z3, z4⟩
      · rw [z] at hdu
        exact sm_m1n (by omega) hdu
      · dsimp only at z4
        rw [z4] at hdu
        have := sm_ei hdu (by omega) (by omega)
        omega
    · by_cases hl : L (8 * a + m) = 0
      · exact Or.inl hl
      · refine Or.inr ?_
        obtain ⟨z1, z2, z3⟩ := hrun m hm hl
        apply Classical.byContradiction
        intro hlt
        have := d3 (L (8 * a + m)) (by omega)
        rw [hr _ (by omega), z3] at this
        exact absurd this (by decide)
    · rw [sm_cl (by omega)]
      refine nm_e (br_f hz (And.intro va (nm_e (nm_e ?_))))
      exact hlow _ _ hp
theorem sm_stp {N S B T : Nat} {all up fr : Int32} {R Bu C Lt Nu : Nat → Nat} {du nw al de wh dt ag xh xl : Nat → Int32} {a : Nat} (hC : sm_C N S B T) (hA : sm_A N all) (hV : sm_V N R al de) (hP : sm_P N Lt Nu ag) (ha : a < N) : ∃ p, 1 ≤ p ∧ p ≤ 64 ∧ ((ag a = -1 ∧ (p = 1 ∨ ∀ m, m < N → m = a ∨ R (8 * a + m) % 3 = 2)) ∨ ∃ g, ag a = nI g ∧ ((g < 2 ∧ g + p = 2) ∨ (2 ≤ g ∧ g + p = 5))) ∧ ∀ post, post (nI p) → wpX_stepsToProbe post (nI N, nI S, nI B, nI T, all, up, fr, sm_vn R, sm_vn Bu, du, nw, al, de, sm_vn C, wh, dt, sm_vn Lt, ag, sm_vn Nu, xh, xl) (nI a) := by
  obtain ⟨c1, c2, c3, c4, c5, c6, c7, c8⟩ := hC
  have va : vp_in (nI a) 8 := sm_in (by omega) (by omega)
  obtain ⟨p1, p2, p3⟩ := hP a ha
  rcases p3 with p3 | ⟨g, hg, p3⟩
  · have htg := sm_tgb c2 hA hV ha
    by_cases hz : (all &&& (de a ^^^ (-1))) &&& (((1 : Int32) <<< (nI a &&& 31)) ^^^ (-1)) = 0
    · refine ⟨64, by omega, by omega, Or.inl ⟨p3, Or.inr (fun m hm => ?_)⟩, fun post hp => And.intro va ?_⟩
      · have hf : ¬ bt ((all &&& (de a ^^^ (-1))) &&& (((1 : Int32) <<< (nI a &&& 31)) ^^^ (-1))) m = true := by rw [hz, b_0]; decide
        rw [htg m (by omega)] at hf
        by_cases e1 : m = a
        · exact Or.inl e1
        · exact Or.inr (Classical.byContradiction fun z => hf ⟨hm, z, e1⟩)
      · rw [sm_cl (by omega), p3]
        refine br_f (by decide) (And.intro va ?_)
        rw [sm_cl (by omega)]
        exact br_t hz hp
    · refine ⟨1, by omega, by omega, Or.inl ⟨p3, Or.inl rfl⟩, fun post hp => And.intro va ?_⟩
      rw [sm_cl (by omega), p3]
      refine br_f (by decide) (And.intro va ?_)
      rw [sm_cl (by omega)]
      exact br_f hz hp
  · by_cases e : g < 2
    · refine ⟨2 - g, by omega, by omega, Or.inr ⟨g, p3, Or.inl ⟨e, by omega⟩⟩, fun post hp => And.intro va ?_⟩
      rw [sm_cl (by omega), p3]
      refine br_t (nI_pos' (by omega)) (And.intro va (br_f (nI_ge (b := 2) e (by decide)) (And.intro va ?_)))
      rw [show (2 : Int32) - nI g = nI (2 - g) from pk_sub (a := 2) (by omega)]
      exact hp
    · refine ⟨5 - g, by omega, by omega, Or.inr ⟨g, p3, Or.inr ⟨by omega, by omega⟩⟩, fun post hp => And.intro va ?_⟩
      rw [sm_cl (by omega), p3]
      refine br_t (nI_pos' (by omega)) (And.intro va (br_t (nI_le (a := 2) (by omega) (by omega)) (And.intro va ?_)))
      rw [show (5 : Int32) - nI g = nI (5 - g) from pk_sub (a := 5) (by omega)]
      exact hp
/-- what the quiet steps keep clear of -/
def sm_qc (N a q : Nat) (R L : Nat → Nat) (ag : Nat → Int32) : Prop := (∀ m, m < N → L (8 * a + m) = 0 ∨ q < L (8 * a + m)) ∧ ((ag a = -1 ∧ (q = 0 ∨ ∀ m, m < N → m = a ∨ R (8 * a + m) % 3 = 2)) ∨ ∃ g, ag a = nI g ∧ ((g < 2 ∧ g + q < 2) ∨ (2 ≤ g ∧ g + q < 5)))
theorem sm_qs {N S B T : Nat} {all up fr : Int32} {R Bu C Lt Nu : Nat → Nat} {du nw al de wh dt ag xh xl : Nat → Int32} {yu : Nat → Int32} {L : Nat → Nat} {bx : Nat → Int32} {a lim : Nat} (h : sm_R N S B T all up fr R Bu C Lt Nu L du nw al de wh dt ag xh xl yu bx) (ha : a < N) (hl : lim < 32) : ∃ q, q ≤ lim ∧ sm_qc N a q R L ag ∧ ∀ post, post (nI q) → wpX_quietSteps post (nI N, nI S, nI B, nI T, all, up, fr, sm_vn R, sm_vn Bu, du, nw, al, de, sm_vn C, wh, dt, sm_vn Lt, ag, sm_vn Nu, xh, xl) (nI a) (nI lim) := by
  obtain ⟨hC, hA, hU, hV, hB, hX, hCK, hK, hP, hM⟩ := h
  obtain ⟨d, d1, d2, d3, hD⟩ := sm_std (all := all) (up := up) (fr := fr) (Bu := Bu) (Lt := Lt) (Nu := Nu) (nw := nw) (al := al) (de := de) (ag := ag) (xh := xh) (xl := xl) hC hX hCK hK ha
  obtain ⟨p, p1, p2, p3, hPp⟩ := sm_stp (up := up) (fr := fr) (Bu := Bu) (C := C) (du := du) (nw := nw) (wh := wh) (dt := dt) (xh := xh) (xl := xl) hC hA hV hP ha
  have hq : ∀ q, q < d → q < p → sm_qc N a q R L ag := by
    intro q h1 h2
    refine ⟨fun m hm => ?_, ?_⟩
    · rcases d3 m hm with z | z
      · exact Or.inl z
      · exact Or.inr (by omega)
    · rcases p3 with ⟨z1, z2⟩ | ⟨g, z1, z2⟩
      · refine Or.inl ⟨z1, ?_⟩
        rcases z2 with z2 | z2
        · exact Or.inl (by omega)
        · exact Or.inr z2
      · exact Or.inr ⟨g, z1, by omega⟩
  have h22 : ∀ q1, q1 < 64 → q1 < d → q1 ≤ lim → ∃ q, q ≤ lim ∧ sm_qc N a q R L ag ∧ ∀ post, post (nI q) → wX_quietSteps_22 post (nI a) (nI q1) (nI N) (nI S) (nI B) (nI T) all up fr (sm_vn R) (sm_vn Bu) du nw al de (sm_vn C) wh dt (sm_vn Lt) ag (sm_vn Nu) xh xl := by
    intro q1 hq1 hqd hql
    by_cases e : q1 ≤ p - 1
    · refine ⟨q1, hql, hq q1 hqd (by omega), fun post hp => hPp _ ?_⟩
      rw [sm_s1 (by omega)]
      exact br_t (nI_le e (by omega)) hp
    · refine ⟨p - 1, by omega, hq _ (by omega) (by omega), fun post hp => hPp _ ?_⟩
      rw [sm_s1 (by omega)]
      exact br_f (nI_ge (by omega) (by omega)) (nm_e hp)
  by_cases e : lim ≤ d - 1
  · obtain ⟨q, q1, q2, q3⟩ := h22 lim (by omega) (by omega) (Nat.le_refl _)
    refine ⟨q, q1, q2, fun post hp => ?_⟩
    unfold wpX_quietSteps
    refine hD _ ?_
    rw [sm_s1 (by omega)]
    exact br_t (nI_le e (by omega)) (q3 post hp)
  · obtain ⟨q, q1, q2, q3⟩ := h22 (d - 1) (by omega) (by omega) (by omega)
    refine ⟨q, q1, q2, fun post hp => ?_⟩
    unfold wpX_quietSteps
    refine hD _ ?_
    rw [sm_s1 (by omega)]
    exact br_f (nI_ge (by omega) (by omega)) (nm_e (q3 post hp))
end
end
section
section
theorem sm_y103n {N S B T : Nat} {R Bu Lt Nu L : Nat → Nat} {yu ag bx : Nat → Int32} {post : Int32 → SY → Prop} {r : Int32} {a : Nat} (hN : N ≤ 8) (ha : a < N) (ht : Lt a < N) (hR : ∀ k, R k ≤ 29) (hm : ∀ m, m < N → m = a ∨ R (8 * a + m) % 3 = 2) (hp : post r (nI N, nI S, nI B, nI T, yu, sm_vn R, sm_vn Bu, sm_vn L, sm_vn Lt, ag, sm_vn Nu, bx)) : ∃ n, wY_step_103 post (nI a) r (nI (Lt a)) (nI N) (nI S) (nI B) (nI T) yu (sm_vn R) (sm_vn Bu) (sm_vn L) (sm_vn Lt) ag (sm_vn Nu) bx n 1 := by
  have key : ∀ d k, k + d = N + 1 → wY_step_103 post (nI a) r (nI (Lt a)) (nI N) (nI S) (nI B) (nI T) yu (sm_vn R) (sm_vn Bu) (sm_vn L) (sm_vn Lt) ag (sm_vn Nu) bx (d + 1) (nI k) := by
    intro d
    induction d with
    | zero =>
      intro k hk
      exact br_t (nI_lt (by omega) (by omega)) hp
    | succ d ih =>
      intro k hk
      have hc := sm_elc N (Lt a) k
      exact sm_y103 hN ht (by omega) (sm_y139m (by omega) (by omega) (hR _) (hm _ (by omega)) (ih (k + 1) (by omega)))
  exact ⟨N + 1, key N 1 (by omega)⟩
/-- one quiet step of the reference, no probe running -/
theorem sm_yq1 {N S B T : Nat} {R Bu Lt Nu L : Nat → Nat} {yu ag bx : Nat → Int32} {post : Int32 → SY → Prop} {a : Nat} (hN : N ≤ 8) (ha : a < N) (ht : Lt a < N) (hR : ∀ k, R k ≤ 29) (hL : ∀ m, m < N → ¬ L (8 * a + m) = 1 ∧ L (8 * a + m) ≤ 20) (hag : ag a = -1) (hm : ∀ m, m < N → m = a ∨ R (8 * a + m) % 3 = 2) (hp : post (nI 0) (nI N, nI S, nI B, nI T, yu, sm_vn R, sm_vn Bu, sm_vn (sm_dl a N L), sm_vn Lt, ag, sm_vn Nu, bx)) : wpY_step post (nI N, nI S, nI B, nI T, yu, sm_vn R, sm_vn Bu, sm_vn L, sm_vn Lt, ag, sm_vn Nu, bx) (nI a) := by
  have va : vp_in (nI a) 8 := sm_in (by omega) (by omega)
  have := sm_yq (post := post) (r := 0) hN (by omega) hL (S := S) (B := B) (T := T) (R := R) (Bu := Bu) (Lt := Lt) (Nu := Nu) (yu := yu) (ag := ag) (bx := bx) (fun n => ?_) N 0 (by omega)
  · rw [sm_dl0] at this
    exact ⟨N + 1, this⟩
  · refine br_t (nI_le (Nat.le_refl _) (by omega)) (And.intro va ?_)
    rw [sm_cl (by omega), sm_va]
    exact nm_e (And.intro va (br_t hag (sm_y103n hN ha ht hR hm hp)))
/-- one quiet step of the reference, a probe running -/
theorem sm_yq2 {N S B T : Nat} {R Bu Lt Nu L : Nat → Nat} {yu ag bx : Nat → Int32} {post : Int32 → SY → Prop} {a g : Nat} (hN : N ≤ 8) (ha : a < N) (hL : ∀ m, m < N → ¬ L (8 * a + m) = 1 ∧ L (8 * a + m) ≤ 20) (hg : g < 5) (hag : ag a = nI g) (h2 : ¬ g + 1 = 2) (h5 : ¬ g + 1 = 5) (hp : post (nI 0) (nI N, nI S, nI B, nI T, yu, sm_vn R, sm_vn Bu, sm_vn (sm_dl a N L), sm_vn Lt, upd ag a (nI (g + 1)), sm_vn Nu, bx)) : wpY_step post (nI N, nI S, nI B, nI T, yu, sm_vn R, sm_vn Bu, sm_vn L, sm_vn Lt, ag, sm_vn Nu, bx) (nI a) := by
  have va : vp_in (nI a) 8 := sm_in (by omega) (by omega)
  have := sm_yq (post := post) (r := 0) hN (by omega) hL (S := S) (B := B) (T := T) (R := R) (Bu := Bu) (Lt := Lt) (Nu := Nu) (yu := yu) (ag := ag) (bx := bx) (fun n => ?_) N 0 (by omega)
  · rw [sm_dl0] at this
    exact ⟨N + 1, this⟩
  · refine br_t (nI_le (Nat.le_refl _) (by omega)) (And.intro va ?_)
    rw [sm_cl (by omega), sm_va]
    refine nm_e (And.intro va (br_f (by rw [hag]; exact sm_nm1 (by omega)) (And.intro va (And.intro va ?_))))
    rw [hag, sm_p1]
    refine nm_e (And.intro va (br_f ?_ (And.intro va (br_f ?_ hp))))
    · rw [pk_us]; exact sm_ne (b := 2) (by omega) (by omega) h2
    · rw [sm_cl (by omega), pk_us]; exact sm_ne (b := 5) (by omega) (by omega) h5
def sm_dq (a N q : Nat) (L : Nat → Nat) : Nat → Nat := fun k => if 8 * a ≤ k ∧ k < 8 * a + N then L k - q else L k
theorem sm_dq0 {a N : Nat} {L : Nat → Nat} : sm_dq a N 0 L = L := by
  funext k
  unfold sm_dq
  split <;> rfl
theorem sm_dqs {a N q : Nat} {L : Nat → Nat} : sm_dq a N q (sm_dl a N L) = sm_dq a N (q + 1) L := by
  funext k
  unfold sm_dq sm_dl
  by_cases e : 8 * a ≤ k ∧ k < 8 * a + N
  · rw [if_pos e, if_pos e, if_pos e]
    omega
  · rw [if_neg e, if_neg e, if_neg e]
theorem sm_dlv {a N m : Nat} {L : Nat → Nat} (hm : m < N) : sm_dl a N L (8 * a + m) = L (8 * a + m) - 1 := if_pos (by omega)
theorem sm_dqv {a N m q : Nat} {L : Nat → Nat} (hm : m < N) : sm_dq a N q L (8 * a + m) = L (8 * a + m) - q := if_pos (by omega)
/-- q quiet steps in the reference's loop of a tick -/
theorem sm_ytA {N S B T : Nat} {R Bu Lt Nu : Nat → Nat} {yu ag bx : Nat → Int32} {post : Int32 → SY → Prop} {a cnt r : Nat} (hN : N ≤ 8) (ha : a < N) (ht : Lt a < N) (hR : ∀ k, R k ≤ 29) (hag : ag a = -1) (hm : ∀ m, m < N → m = a ∨ R (8 * a + m) % 3 = 2) (hc : cnt ≤ 32) : ∀ (q k : Nat) (L : Nat → Nat), k + q < cnt → (∀ m, m < N → (L (8 * a + m) = 0 ∨ q < L (8 * a + m)) ∧ L (8 * a + m) ≤ 20) → (∀ n, cnt - (k + q) < n → wY_tick_35 post (nI a) (nI cnt) n (nI r) (nI (k + q)) (nI N) (nI S) (nI B) (nI T) yu (sm_vn R) (sm_vn Bu) (sm_vn (sm_dq a N q L)) (sm_vn Lt) ag (sm_vn Nu) bx) → ∀ n, cnt - k < n → wY_tick_35 post (nI a) (nI cnt) n (nI r) (nI k) (nI N) (nI S) (nI B) (nI T) yu (sm_vn R) (sm_vn Bu) (sm_vn L) (sm_vn Lt) ag (sm_vn Nu) bx := by
  intro q
  induction q with
  | zero =>
    intro k L hk hL h n hn
    rw [sm_dq0] at h
    exact h n (by omega)
  | succ q ih =>
    intro k L hk hL h n hn
    obtain ⟨n', rfl⟩ : ∃ n', n = n' + 1 := ⟨n - 1, by omega⟩
    refine br_f (nI_ge (by omega) (by omega)) ?_
    refine sm_yq1 hN ha ht hR (fun m hm' => ?_) hag hm ?_
    · have := hL m hm'
      omega
    · refine nm_r (e' := nI r) (nI_add r 0) (nm_r (sm_p1 k) ?_)
      refine ih (k + 1) (sm_dl a N L) (by omega) (fun m hm' => ?_) (fun n2 hn2 => ?_) n' (by omega)
      · have := hL m hm'
        rw [sm_dlv hm']
        omega
      · rw [sm_dqs, show k + 1 + q = k + (q + 1) by omega]
        exact h n2 (by omega)
theorem sm_ytB {N S B T : Nat} {R Bu Lt Nu : Nat → Nat} {yu bx : Nat → Int32} {post : Int32 → SY → Prop} {a cnt r : Nat} (hN : N ≤ 8) (ha : a < N) (hc : cnt ≤ 32) : ∀ (q k g : Nat) (L : Nat → Nat) (ag : Nat → Int32), k + q < cnt → ag a = nI g → ((g < 2 ∧ g + q < 2) ∨ (2 ≤ g ∧ g + q < 5)) → (∀ m, m < N → (L (8 * a + m) = 0 ∨ q < L (8 * a + m)) ∧ L (8 * a + m) ≤ 20) → (∀ n, cnt - (k + q) < n → wY_tick_35 post (nI a) (nI cnt) n (nI r) (nI (k + q)) (nI N) (nI S) (nI B) (nI T) yu (sm_vn R) (sm_vn Bu) (sm_vn (sm_dq a N q L)) (sm_vn Lt) (upd ag a (nI (g + q))) (sm_vn Nu) bx) → ∀ n, cnt - k < n → wY_tick_35 post (nI a) (nI cnt) n (nI r) (nI k) (nI N) (nI S) (nI B) (nI T) yu (sm_vn R) (sm_vn Bu) (sm_vn L) (sm_vn Lt) ag (sm_vn Nu) bx := by
  intro q
  induction q with
  | zero =>
    intro k g L ag hk hag hg hL h n hn
    rw [sm_dq0, sm_uid (by rw [hag]; rfl)] at h
    exact h n (by omega)
  | succ q ih =>
    intro k g L ag hk hag hg hL h n hn
    obtain ⟨n', rfl⟩ : ∃ n', n = n' + 1 := ⟨n - 1, by omega⟩
    refine br_f (nI_ge (by omega) (by omega)) ?_
    refine sm_yq2 (g := g) hN ha (fun m hm' => ?_) (by omega) hag (by omega) (by omega) ?_
    · have := hL m hm'
      omega
    · refine nm_r (e' := nI r) (nI_add r 0) (nm_r (sm_p1 k) ?_)
      refine ih (k + 1) (g + 1) (sm_dl a N L) (upd ag a (nI (g + 1))) (by omega) pk_us (by omega) (fun m hm' => ?_) (fun n2 hn2 => ?_) n' (by omega)
      · have := hL m hm'
        rw [sm_dlv hm']
        omega
      · rw [sm_dqs, sm_uu, show k + 1 + q = k + (q + 1) by omega, show g + 1 + q = g + (q + 1) by omega]
        exact h n2 (by omega)
/-- the component's skip -/
theorem sm_xsk0 {N S B T : Nat} {all up fr : Int32} {R Bu C Lt Nu : Nat → Nat} {du nw al de wh dt ag xh xl : Nat → Int32} {post : SX → Prop} {a q : Nat} (ha : a < 8) (hc : C a < 32) (hq : q < 32) (hag : ag a = -1) (hp : post (nI N, nI S, nI B, nI T, all, up, fr, sm_vn R, sm_vn Bu, du, nw, al, de, sm_vn (sm_un C a ((C a + q) % 32)), wh, dt, sm_vn Lt, ag, sm_vn Nu, xh, xl)) : wpX_skip post (nI N, nI S, nI B, nI T, all, up, fr, sm_vn R, sm_vn Bu, du, nw, al, de, sm_vn C, wh, dt, sm_vn Lt, ag, sm_vn Nu, xh, xl) (nI a) (nI q) := by
  have va : vp_in (nI a) 8 := sm_in (by omega) (by omega)
  refine And.intro va (And.intro va ?_)
  rw [sm_cl (by omega), sm_va, nI_add, sm_m31 (by omega), sm_vu]
  exact nm_e (And.intro va (br_t (by rw [hag]; decide) hp))
theorem sm_xsk1 {N S B T : Nat} {all up fr : Int32} {R Bu C Lt Nu : Nat → Nat} {du nw al de wh dt ag xh xl : Nat → Int32} {post : SX → Prop} {a q g : Nat} (ha : a < 8) (hc : C a < 32) (hq : q < 32) (hg : g < 5) (hag : ag a = nI g) (hp : post (nI N, nI S, nI B, nI T, all, up, fr, sm_vn R, sm_vn Bu, du, nw, al, de, sm_vn (sm_un C a ((C a + q) % 32)), wh, dt, sm_vn Lt, upd ag a (nI (g + q)), sm_vn Nu, xh, xl)) : wpX_skip post (nI N, nI S, nI B, nI T, all, up, fr, sm_vn R, sm_vn Bu, du, nw, al, de, sm_vn C, wh, dt, sm_vn Lt, ag, sm_vn Nu, xh, xl) (nI a) (nI q) := by
  have va : vp_in (nI a) 8 := sm_in (by omega) (by omega)
  refine And.intro va (And.intro va ?_)
  rw [sm_cl (by omega), sm_va, nI_add, sm_m31 (by omega), sm_vu]
  refine nm_e (And.intro va (br_f ?_ (And.intro va (And.intro va ?_))))
  · rw [hag]; exact nI_pos (by omega)
  · rw [hag, nI_add]
    exact nm_e hp
theorem sm_skK {N T a q : Nat} {R L C : Nat → Nat} {du : Nat → Int32} (hT : T ≤ 20) (hN : N ≤ 8) (hK : sm_K N T R L du (fun a _ => C a)) (hL : ∀ m, m < N → L (8 * a + m) = 0 ∨ q < L (8 * a + m)) : sm_K N T R (sm_dq a N q L) du (fun a' _ => sm_un C a ((C a + q) % 32) a') := by
  intro a' ha' m' hm'
  have hk := hK a' ha' m' hm'
  dsimp only at hk ⊢
  by_cases e : a' = a
  · subst e
    rw [sm_us, sm_dqv hm']
    have := hL m' hm'
    rcases hk with ⟨z1, z2⟩ | ⟨z1, z2, z3, z4⟩
    · exact Or.inl ⟨by omega, z2⟩
    · refine Or.inr ⟨by omega, by omega, z3, ?_⟩
      rw [z4]
      exact congrArg nI (by omega)
  · have e2 : sm_dq a N q L (8 * a' + m') = L (8 * a' + m') := if_neg (by omega)
    rw [sm_uo e, e2]
    exact hk
/-- the two loops of a tick -/
theorem sm_tick_l {N S B T : Nat} {all up : Int32} {yu : Nat → Int32} {a cnt : Nat} (ha : a < N) (hcnt : cnt ≤ 32) : ∀ (b rem i k r : Nat) (fr : Int32) (R Bu C Lt Nu L : Nat → Nat) (du nw al de wh dt ag xh xl bx : Nat → Int32), rem ≤ b → i + rem ≤ cnt → k + rem = cnt → sm_R N S B T all up fr R Bu C Lt Nu L du nw al de wh dt ag xh xl yu bx → sm_SO N S B T all up yu
    (fun post => ∀ n, rem < n → wX_tick_29 post (nI a) (nI cnt) n (nI r) (nI rem) (nI i) (nI N) (nI S) (nI B) (nI T) all up fr (sm_vn R) (sm_vn Bu) du nw al de (sm_vn C) wh dt (sm_vn Lt) ag (sm_vn Nu) xh xl)
    (fun post => ∀ n, rem < n → wY_tick_35 post (nI a) (nI cnt) n (nI r) (nI k) (nI N) (nI S) (nI B) (nI T) yu (sm_vn R) (sm_vn Bu) (sm_vn L) (sm_vn Lt) ag (sm_vn Nu) bx) := by
  intro b
  induction b with
  | zero =>
    intro rem i k r fr R Bu C Lt Nu L du nw al de wh dt ag xh xl bx hb hi hk h
    have e : rem = 0 := by omega
    subst e
    refine ⟨r, _, _, sm_Ii h, fun post hp n hn => ?_, fun post hp n hn => ?_⟩
    · obtain ⟨n', rfl⟩ : ∃ n', n = n' + 1 := ⟨n - 1, by omega⟩
      exact br_c (fun _ => hp) (fun _ => br_t (show nI 0 ≤ nI 0 by decide) hp)
    · obtain ⟨n', rfl⟩ : ∃ n', n = n' + 1 := ⟨n - 1, by omega⟩
      exact br_t (nI_le (by omega) (by omega)) hp
  | succ b ih =>
    intro rem i k r fr R Bu C Lt Nu L du nw al de wh dt ag xh xl bx hb hi hk h
    by_cases e0 : rem = 0
    · exact ih rem i k r fr R Bu C Lt Nu L du nw al de wh dt ag xh xl bx (by omega) hi hk h
    · obtain ⟨q, q1, ⟨q2, q3⟩, hQ⟩ := sm_qs (lim := rem - 1) h ha (by omega)
      obtain ⟨hC, hA, hU, hV, hB, hX, hCK, hK, hP, hM⟩ := h
      have hC' := hC
      obtain ⟨c1, c2, c3, c4, c5, c6, c7, c8⟩ := hC'
      obtain ⟨p1, p2, -⟩ := hP a ha
      have hLq : ∀ m, m < N → (L (8 * a + m) = 0 ∨ q < L (8 * a + m)) ∧ L (8 * a + m) ≤ 20 := by
        intro m hm
        refine ⟨q2 m hm, ?_⟩
        rcases hK a ha m hm with ⟨z, _⟩ | ⟨_, z, _⟩ <;> omega
      have hCK' : sm_CK N (sm_un C a ((C a + q) % 32)) := by
        intro a' ha'
        by_cases e : a' = a
        · rw [e, sm_us]; exact Nat.mod_lt _ (by omega)
        · rw [sm_uo e]; exact hCK a' ha'
      have hK' := sm_skK c8 c2 hK q2
      have hca := hCK a ha
      -- the state behind the quiet steps, with either age
      have main : ∃ ag', sm_P N Lt Nu ag' ∧ (∀ post, post (nI N, nI S, nI B, nI T, all, up, fr, sm_vn R, sm_vn Bu, du, nw, al, de, sm_vn (sm_un C a ((C a + q) % 32)), wh, dt, sm_vn Lt, ag', sm_vn Nu, xh, xl) → wpX_skip post (nI N, nI S, nI B, nI T, all, up, fr, sm_vn R, sm_vn Bu, du, nw, al, de, sm_vn C, wh, dt, sm_vn Lt, ag, sm_vn Nu, xh, xl) (nI a) (nI q)) ∧ ∀ post, (∀ n, cnt - (k + q) < n → wY_tick_35 post (nI a) (nI cnt) n (nI r) (nI (k + q)) (nI N) (nI S) (nI B) (nI T) yu (sm_vn R) (sm_vn Bu) (sm_vn (sm_dq a N q L)) (sm_vn Lt) ag' (sm_vn Nu) bx) → ∀ n, cnt - k < n → wY_tick_35 post (nI a) (nI cnt) n (nI r) (nI k) (nI N) (nI S) (nI B) (nI T) yu (sm_vn R) (sm_vn Bu) (sm_vn L) (sm_vn Lt) ag (sm_vn Nu) bx := by
        rcases q3 with ⟨z1, z2⟩ | ⟨g, z1, z2⟩
        · refine ⟨ag, hP, fun post hp => sm_xsk0 (by omega) hca (by omega) z1 hp, fun post hp => ?_⟩
          rcases z2 with z2 | z2
          · subst z2
            rw [sm_dq0] at hp
            exact hp
          · exact sm_ytA c2 ha p1 hV.1 z1 z2 hcnt q k L (by omega) hLq hp
        · refine ⟨upd ag a (nI (g + q)), ?_, fun post hp => sm_xsk1 (by omega) hca (by omega) (by omega) z1 hp, fun post hp => sm_ytB c2 ha hcnt q k g L ag (by omega) z1 z2 hLq hp⟩
          intro a' ha'
          by_cases e : a' = a
          · rw [e, pk_us]; exact ⟨p1, p2, Or.inr ⟨g + q, by omega, rfl⟩⟩
          · rw [pk_un e]; exact hP a' ha'
      obtain ⟨ag', hP', hSX, hSY⟩ := main
      clear q3
      obtain ⟨r2, u2, v2, I2, fX, fY⟩ := sm_step (a := a) ⟨hC, hA, hU, hV, hB, hX, hCK', hK', hP', hM⟩ ha
      obtain ⟨fr2, R2, Bu2, C2, Lt2, Nu2, L2, du2, nw2, al2, de2, wh2, dt2, ag2, xh2, xl2, bx2, hR2, rfl, rfl⟩ := I2
      obtain ⟨r3, u3, v3, I3, kX, kY⟩ := ih (rem - (q + 1)) (i + 1) (k + q + 1) (r + r2) fr2 R2 Bu2 C2 Lt2 Nu2 L2 du2 nw2 al2 de2 wh2 dt2 ag2 xh2 xl2 bx2 (by omega) (by omega) (by omega) hR2
      refine ⟨r3, u3, v3, I3, fun post hp n hn => ?_, fun post hp n hn => hSY post (fun n hn => ?_) n (by omega)⟩
      · obtain ⟨n', rfl⟩ : ∃ n', n = n' + 1 := ⟨n - 1, by omega⟩
        refine br_f (nI_ge (by omega) (by omega)) (br_f (nI_nle (by omega) (by omega)) ?_)
        rw [sm_s1 (by omega)]
        refine hQ _ (hSX _ (fX _ ?_))
        refine nm_r (nI_add r r2) (nm_r (e' := nI (rem - (q + 1))) ?_ (nm_r (sm_p1 i) (kX post hp n' (by omega))))
        rw [sm_p1 q, pk_sub (by omega)]
      · obtain ⟨n', rfl⟩ : ∃ n', n = n' + 1 := ⟨n - 1, by omega⟩
        refine br_f (nI_ge (by omega) (by omega)) (fY _ ?_)
        exact nm_r (nI_add r r2) (nm_r (sm_p1 (k + q)) (kY post hp n' (by omega)))
end
end
section
section
/-! tickAll -/
theorem sm_ta {N S B T : Nat} {all up : Int32} {yu : Nat → Int32} {cnt : Nat} (hcnt : cnt ≤ 8) : ∀ (d k r : Nat) (fr : Int32) (R Bu C Lt Nu L : Nat → Nat) (du nw al de wh dt ag xh xl bx : Nat → Int32), k + d = cnt → sm_R N S B T all up fr R Bu C Lt Nu L du nw al de wh dt ag xh xl yu bx → sm_SO N S B T all up yu
    (fun post => ∀ n, d < n → wX_tickAll_17 post (nI cnt) n (nI r) (nI k) (nI N) (nI S) (nI B) (nI T) all up fr (sm_vn R) (sm_vn Bu) du nw al de (sm_vn C) wh dt (sm_vn Lt) ag (sm_vn Nu) xh xl)
    (fun post => ∀ n, d < n → wY_tickAll_17 post (nI cnt) n (nI r) (nI k) (nI N) (nI S) (nI B) (nI T) yu (sm_vn R) (sm_vn Bu) (sm_vn L) (sm_vn Lt) ag (sm_vn Nu) bx) := by
  intro d
  induction d with
  | zero =>
    intro k r fr R Bu C Lt Nu L du nw al de wh dt ag xh xl bx hk h
    refine ⟨r, _, _, sm_Ii h, fun post hp n hn => ?_, fun post hp n hn => ?_⟩
    · obtain ⟨n', rfl⟩ : ∃ n', n = n' + 1 := ⟨n - 1, by omega⟩
      exact br_t (nI_le (by omega) (by omega)) hp
    · obtain ⟨n', rfl⟩ : ∃ n', n = n' + 1 := ⟨n - 1, by omega⟩
      exact br_t (nI_le (by omega) (by omega)) hp
  | succ d ihd =>
    intro k r fr R Bu C Lt Nu L du nw al de wh dt ag xh xl bx hk h
    have inner : ∀ (e a r : Nat) (fr : Int32) (R Bu C Lt Nu L : Nat → Nat) (du nw al de wh dt ag xh xl bx : Nat → Int32), a + e = N → sm_R N S B T all up fr R Bu C Lt Nu L du nw al de wh dt ag xh xl yu bx → sm_SO N S B T all up yu
        (fun post => ∀ n nn, d < n → e < nn → wX_tickAll_25 post (wX_tickAll_17 post (nI cnt) n) (nI cnt) (nI k) nn (nI r) (nI a) (nI N) (nI S) (nI B) (nI T) all up fr (sm_vn R) (sm_vn Bu) du nw al de (sm_vn C) wh dt (sm_vn Lt) ag (sm_vn Nu) xh xl)
        (fun post => ∀ n nn, d < n → e < nn → wY_tickAll_25 post (wY_tickAll_17 post (nI cnt) n) (nI cnt) (nI k) nn (nI r) (nI a) (nI N) (nI S) (nI B) (nI T) yu (sm_vn R) (sm_vn Bu) (sm_vn L) (sm_vn Lt) ag (sm_vn Nu) bx) := by
      intro e
      induction e with
      | zero =>
        intro a r fr R Bu C Lt Nu L du nw al de wh dt ag xh xl bx ha h
        have c2 := h.1.2.1
        obtain ⟨r3, u3, v3, I3, kX, kY⟩ := ihd (k + 1) r fr R Bu C Lt Nu L du nw al de wh dt ag xh xl bx (by omega) h
        refine ⟨r3, u3, v3, I3, fun post hp n nn hn hnn => ?_, fun post hp n nn hn hnn => ?_⟩
        · obtain ⟨n', rfl⟩ : ∃ n', nn = n' + 1 := ⟨nn - 1, by omega⟩
          exact br_t (nI_le (by omega) (by omega)) (nm_r (sm_p1 k) (kX post hp n hn))
        · obtain ⟨n', rfl⟩ : ∃ n', nn = n' + 1 := ⟨nn - 1, by omega⟩
          exact br_t (nI_le (by omega) (by omega)) (nm_r (sm_p1 k) (kY post hp n hn))
      | succ e ihe =>
        intro a r fr R Bu C Lt Nu L du nw al de wh dt ag xh xl bx ha h
        have c2 := h.1.2.1
        have hN : a < N := by omega
        have hyu := h.2.2.1 a hN
        have va : vp_in (nI a) 8 := sm_in (by omega) (by omega)
        have hNa : ¬ nI N ≤ nI a := nI_ge (by omega) (by omega)
        cases hb : bt up a with
        | false =>
          obtain ⟨r3, u3, v3, I3, kX, kY⟩ := ihe (a + 1) r fr R Bu C Lt Nu L du nw al de wh dt ag xh xl bx (by omega) h
          refine ⟨r3, u3, v3, I3, fun post hp n nn hn hnn => ?_, fun post hp n nn hn hnn => ?_⟩
          · obtain ⟨n', rfl⟩ : ∃ n', nn = n' + 1 := ⟨nn - 1, by omega⟩
            exact br_f hNa (sm_hF (by omega) hb (nm_r (sm_p1 a) (kX post hp n n' hn (by omega))))
          · obtain ⟨n', rfl⟩ : ∃ n', nn = n' + 1 := ⟨nn - 1, by omega⟩
            refine br_f hNa (And.intro va ?_)
            rw [sm_cl (by omega), hyu, hb]
            exact br_t rfl (nm_r (sm_p1 a) (kY post hp n n' hn (by omega)))
        | true =>
          obtain ⟨r2, u2, v2, I2, fX, fY⟩ := sm_step h hN
          obtain ⟨fr2, R2, Bu2, C2, Lt2, Nu2, L2, du2, nw2, al2, de2, wh2, dt2, ag2, xh2, xl2, bx2, hR2, rfl, rfl⟩ := I2
          obtain ⟨r3, u3, v3, I3, kX, kY⟩ := ihe (a + 1) (r + r2) fr2 R2 Bu2 C2 Lt2 Nu2 L2 du2 nw2 al2 de2 wh2 dt2 ag2 xh2 xl2 bx2 (by omega) hR2
          refine ⟨r3, u3, v3, I3, fun post hp n nn hn hnn => ?_, fun post hp n nn hn hnn => ?_⟩
          · obtain ⟨n', rfl⟩ : ∃ n', nn = n' + 1 := ⟨nn - 1, by omega⟩
            refine br_f hNa (sm_hT (by omega) hb (fX _ ?_))
            exact nm_r (nI_add r r2) (nm_r (sm_p1 a) (kX post hp n n' hn (by omega)))
          · obtain ⟨n', rfl⟩ : ∃ n', nn = n' + 1 := ⟨nn - 1, by omega⟩
            refine br_f hNa (And.intro va ?_)
            rw [sm_cl (by omega), hyu, hb]
            refine br_f (by decide) (fY _ ?_)
            exact nm_r (nI_add r r2) (nm_r (sm_p1 a) (kY post hp n n' hn (by omega)))
    obtain ⟨r3, u3, v3, I3, kX, kY⟩ := inner N 0 r fr R Bu C Lt Nu L du nw al de wh dt ag xh xl bx (by omega) h
    refine ⟨r3, u3, v3, I3, fun post hp n hn => ?_, fun post hp n hn => ?_⟩
    · obtain ⟨n', rfl⟩ : ∃ n', n = n' + 1 := ⟨n - 1, by omega⟩
      exact br_f (nI_ge (by omega) (by omega)) ⟨N + 1, kX post hp n' (N + 1) (by omega) (by omega)⟩
    · obtain ⟨n', rfl⟩ : ∃ n', n = n' + 1 := ⟨n - 1, by omega⟩
      exact br_f (nI_ge (by omega) (by omega)) ⟨N + 1, kY post hp n' (N + 1) (by omega) (by omega)⟩
/-! merge -/
theorem sm_lq {c : Nat} {q : Nat → Nat} (h0 : q 0 < 256) (h1 : q 1 < 256) (h2 : q 2 < 256) (hc : c ≤ 3) {i : Nat} (hi : i < 3) : (nI (sm_e3 q + 16777216 * c) >>> ((8 * nI i) &&& 31)) &&& 255 = nI (q i) := by
  have hc3 : i = 0 ∨ i = 1 ∨ i = 2 := by omega
  rcases hc3 with rfl | rfl | rfl
  · rw [pk_shrN (by unfold sm_e3; omega) _ 0 (by decide), sm_m255 (by unfold sm_e3; omega)]
    exact congrArg nI (by unfold sm_e3; omega)
  · rw [pk_shrN (by unfold sm_e3; omega) _ 8 (by decide), sm_m255 (by unfold sm_e3; omega)]
    exact congrArg nI (by unfold sm_e3; omega)
  · rw [pk_shrN (by unfold sm_e3; omega) _ 16 (by decide), sm_m255 (by unfold sm_e3; omega)]
    exact congrArg nI (by unfold sm_e3; omega)
theorem sm_lc {c : Nat} {q : Nat → Nat} (h0 : q 0 < 256) (h1 : q 1 < 256) (h2 : q 2 < 256) (hc : c ≤ 3) : nI (sm_e3 q + 16777216 * c) >>> ((24 : Int32) &&& 31) = nI c := by
  rw [pk_shrN (by unfold sm_e3; omega) _ 24 (by decide)]
  exact congrArg nI (by unfold sm_e3; omega)
theorem sm_s5 {n : Nat} (h : n < 2147483648) : nI n >>> ((5 : Int32) &&& 31) = nI (n / 32) := pk_shrN (by omega) _ 5 (by decide)
def sm_MO (N S B T : Nat) (all up fr : Int32) (C Lt Nu : Nat → Nat) (ag xh xl yu bx : Nat → Int32) (s a : Nat) (kd fo og su nu : Int32) (WX : (Int32 → SX → Prop) → Prop) (WY : (Int32 → SY → Prop) → Prop) : Prop :=
  ∃ (r : Nat) (R Bu L : Nat → Nat) (du nw al de wh dt : Nat → Int32), sm_V N R al de ∧ sm_B N B Bu nw ∧ sm_X N du wh dt ∧ sm_K N T R L du (fun a _ => C a) ∧ (∀ post, post (nI r) (nI N, nI S, nI B, nI T, all, up, fr, sm_vn R, sm_vn Bu, du, nw, al, de, sm_vn C, wh, dt, sm_vn Lt, ag, sm_vn Nu, xh, xl) → WX post) ∧ ∀ post, (∀ n, wY_delivery_103 post (nI s) kd fo (nI a) og su nu (n + 1) (nI r) (nI 3) (nI N) (nI S) (nI B) (nI T) yu (sm_vn R) (sm_vn Bu) (sm_vn L) (sm_vn Lt) ag (sm_vn Nu) bx) → WY post
theorem sm_ydn {N S B T : Nat} {R Bu Lt Nu L : Nat → Nat} {yu ag bx : Nat → Int32} {post : Int32 → SY → Prop} {s c a r : Nat} {kd fo og su nu : Int32} (hs : s < 24) (hq : ∀ i, i < 3 → c ≤ i → bx (10 * s + 7 + i) = -1) (hf : ∀ n, wY_delivery_103 post (nI s) kd fo (nI a) og su nu (n + 1) (nI r) (nI 3) (nI N) (nI S) (nI B) (nI T) yu (sm_vn R) (sm_vn Bu) (sm_vn L) (sm_vn Lt) ag (sm_vn Nu) bx) : ∀ d i, c ≤ i → i + d = 3 → ∀ n, d < n → wY_delivery_103 post (nI s) kd fo (nI a) og su nu n (nI r) (nI i) (nI N) (nI S) (nI B) (nI T) yu (sm_vn R) (sm_vn Bu) (sm_vn L) (sm_vn Lt) ag (sm_vn Nu) bx := by
  intro d
  induction d with
  | zero =>
    intro i hc hi n hn
    obtain ⟨n', rfl⟩ : ∃ n', n = n' + 1 := ⟨n - 1, by omega⟩
    have e : i = 3 := by omega
    subst e
    exact hf n'
  | succ d ih =>
    intro i hc hi n hn
    obtain ⟨n', rfl⟩ : ∃ n', n = n' + 1 := ⟨n - 1, by omega⟩
    refine br_f (nI_ge (b := 3) (by omega) (by decide)) ?_
    rw [sm_m10, sm_p7, nI_add]
    refine And.intro (sm_in (by omega) (by omega)) ?_
    rw [sm_cl (by omega), hq i (by omega) hc]
    exact nm_e (br_t (by decide) (nm_r (sm_p1 i) (ih (i + 1) (by omega) (by omega) n' (by omega))))
section
variable {N S B T : Nat} {all up fr : Int32} {C Lt Nu : Nat → Nat} {ag xh xl yu bx : Nat → Int32} {a s c : Nat} {q : Nat → Nat} {kd fo og su nu : Int32}
theorem sm_merge_l (hC : sm_C N S B T) (hCK : sm_CK N C) (ha : a < N) (hs : s < 24) (hc3 : c ≤ 3) (hq : ∀ i, i < 3 → (i < c → q i / 32 < N ∧ q i % 32 ≤ 29 ∧ bx (10 * s + 7 + i) = nI (q i)) ∧ (c ≤ i → q i = 0 ∧ bx (10 * s + 7 + i) = -1)) : ∀ (d i r : Nat) (R Bu L : Nat → Nat) (du nw al de wh dt : Nat → Int32), i + d = 3 → sm_V N R al de → sm_B N B Bu nw → sm_X N du wh dt → sm_K N T R L du (fun a _ => C a) → sm_MO N S B T all up fr C Lt Nu ag xh xl yu bx s a kd fo og su nu
    (fun post => ∀ n, d < n → wX_merge_11 post (nI a) (nI (sm_e3 q + 16777216 * c)) (nI c) n (nI r) (nI i) (nI N) (nI S) (nI B) (nI T) all up fr (sm_vn R) (sm_vn Bu) du nw al de (sm_vn C) wh dt (sm_vn Lt) ag (sm_vn Nu) xh xl)
    (fun post => ∀ n, d < n → wY_delivery_103 post (nI s) kd fo (nI a) og su nu n (nI r) (nI i) (nI N) (nI S) (nI B) (nI T) yu (sm_vn R) (sm_vn Bu) (sm_vn L) (sm_vn Lt) ag (sm_vn Nu) bx) := by
  have hC' := hC
  obtain ⟨c1, c2, c3, c4, c5, c6, c7, c8⟩ := hC'
  have hql : ∀ i, i < 3 → q i < 256 := by
    intro i hi
    by_cases e : i < c
    · have := (hq i hi).1 e
      omega
    · rw [((hq i hi).2 (by omega)).1]; omega
  have h0 := hql 0 (by omega)
  have h1 := hql 1 (by omega)
  have h2 := hql 2 (by omega)
  intro d
  induction d with
  | zero =>
    intro i r R Bu L du nw al de wh dt hi hV hB hX hK
    have e : i = 3 := by omega
    subst e
    refine ⟨r, R, Bu, L, du, nw, al, de, wh, dt, hV, hB, hX, hK, fun post hp n hn => ?_, fun post hf n hn => ?_⟩
    · obtain ⟨n', rfl⟩ : ∃ n', n = n' + 1 := ⟨n - 1, by omega⟩
      exact br_t (show nI 3 ≤ nI 3 by decide) hp
    · obtain ⟨n', rfl⟩ : ∃ n', n = n' + 1 := ⟨n - 1, by omega⟩
      exact hf n'
  | succ d ih =>
    intro i r R Bu L du nw al de wh dt hi hV hB hX hK
    have hi3 : ¬ (3 : Int32) ≤ nI i := nI_ge (b := 3) (by omega) (by decide)
    have ev : vp_in (nI (10 * s + 7 + i)) 240 := sm_in (by omega) (by omega)
    by_cases e : c ≤ i
    · refine ⟨r, R, Bu, L, du, nw, al, de, wh, dt, hV, hB, hX, hK, fun post hp n hn => ?_, fun post hf => sm_ydn hs (fun i hi hc => ((hq i hi).2 hc).2) hf (d + 1) i e hi⟩
      obtain ⟨n', rfl⟩ : ∃ n', n = n' + 1 := ⟨n - 1, by omega⟩
      exact br_f hi3 (br_t (nI_le e (by omega)) hp)
    · obtain ⟨u1, u2, u3⟩ := (hq i (by omega)).1 (by omega)
      have hqi := hql i (by omega)
      have hRm := hV.1 (8 * a + q i / 32)
      have ew : vp_in (nI (8 * a + q i / 32)) 64 := sm_in (by omega) (by omega)
      -- the component down to the comparison
      have xw : ∀ post n, ((nI (q i % 32) ≤ nI (R (8 * a + q i / 32)) → wX_merge_11 post (nI a) (nI (sm_e3 q + 16777216 * c)) (nI c) n (nI r) (nI (i + 1)) (nI N) (nI S) (nI B) (nI T) all up fr (sm_vn R) (sm_vn Bu) du nw al de (sm_vn C) wh dt (sm_vn Lt) ag (sm_vn Nu) xh xl) ∧ (¬ nI (q i % 32) ≤ nI (R (8 * a + q i / 32)) → ((nI (q i / 32) = nI a → (¬ (3 : Int32) = 0 ∧ ((9 ≤ nI (q i % 32) / 3 → wX_merge_85 post (wX_merge_11 post (nI a) (nI (sm_e3 q + 16777216 * c)) (nI c) n) (nI a) (nI (sm_e3 q + 16777216 * c)) (nI c) (nI r) (nI i) (nI (q i / 32)) (nI (q i % 32)) (nI N) (nI S) (nI B) (nI T) all up fr (sm_vn R) (sm_vn Bu) du nw al de (sm_vn C) wh dt (sm_vn Lt) ag (sm_vn Nu) xh xl) ∧ (¬ 9 ≤ nI (q i % 32) / 3 → wX_merge_86 post (wX_merge_11 post (nI a) (nI (sm_e3 q + 16777216 * c)) (nI c) n) (nI a) (nI (sm_e3 q + 16777216 * c)) (nI c) (nI r) (nI i) (nI (q i / 32)) (nI (q i % 32)) 1 (nI N) (nI S) (nI B) (nI T) all up fr (sm_vn R) (sm_vn Bu) du nw al de (sm_vn C) wh dt (sm_vn Lt) ag (sm_vn Nu) xh xl)))) ∧ (¬ nI (q i / 32) = nI a → wX_merge_85 post (wX_merge_11 post (nI a) (nI (sm_e3 q + 16777216 * c)) (nI c) n) (nI a) (nI (sm_e3 q + 16777216 * c)) (nI c) (nI r) (nI i) (nI (q i / 32)) (nI (q i % 32)) (nI N) (nI S) (nI B) (nI T) all up fr (sm_vn R) (sm_vn Bu) du nw al de (sm_vn C) wh dt (sm_vn Lt) ag (sm_vn Nu) xh xl)))) → wX_merge_11 post (nI a) (nI (sm_e3 q + 16777216 * c)) (nI c) (n + 1) (nI r) (nI i) (nI N) (nI S) (nI B) (nI T) all up fr (sm_vn R) (sm_vn Bu) du nw al de (sm_vn C) wh dt (sm_vn Lt) ag (sm_vn Nu) xh xl := by
        intro post n hp
        refine br_f hi3 (br_f (nI_ge (by omega) (by omega)) (nm_r (sm_lq h0 h1 h2 hc3 (by omega)) (nm_r (sm_s5 (by omega)) (nm_r (sm_m31 (by omega)) ?_))))
        rw [sm_ix8]
        refine And.intro ew ?_
        rw [sm_cl (by omega), sm_va]
        exact ⟨fun z => nm_r (sm_p1 i) (hp.1 z), hp.2⟩
      by_cases hle : q i % 32 ≤ R (8 * a + q i / 32)
      · obtain ⟨r3, R3, Bu3, L3, du3, nw3, al3, de3, wh3, dt3, g1, g2, g3, g4, gX, gY⟩ := ih (i + 1) r R Bu L du nw al de wh dt (by omega) hV hB hX hK
        refine ⟨r3, R3, Bu3, L3, du3, nw3, al3, de3, wh3, dt3, g1, g2, g3, g4, fun post hp n hn => ?_, fun post hf n hn => ?_⟩
        · obtain ⟨n', rfl⟩ : ∃ n', n = n' + 1 := ⟨n - 1, by omega⟩
          exact xw post n' (br_t (nI_le hle (by omega)) (gX post hp n' (by omega)))
        · obtain ⟨n', rfl⟩ : ∃ n', n = n' + 1 := ⟨n - 1, by omega⟩
          refine br_f hi3 ?_
          rw [sm_m10, sm_p7, nI_add]
          refine And.intro ev ?_
          rw [sm_cl (by omega), u3]
          refine nm_e (br_f (nI_pos (by omega)) (And.intro sm_n32 (And.intro sm_n32 ?_)))
          rw [sm_r32 (by omega), sm_d32 (by omega), sm_ix8]
          refine And.intro ew ?_
          rw [sm_cl (by omega), sm_va]
          exact br_t (nI_le hle (by omega)) (nm_r (sm_p1 i) (gY post hf n' (by omega)))
      · -- a raise: to w
        have hgo : ∀ w, w ≤ 29 → (∀ post n, wX_merge_110 post (wX_merge_11 post (nI a) (nI (sm_e3 q + 16777216 * c)) (nI c) n) (nI a) (nI (sm_e3 q + 16777216 * c)) (nI c) (nI r) (nI i) (nI w) (nI (q i / 32)) (nI a) (nI N) (nI S) (nI B) (nI T) all up fr (sm_vn R) (sm_vn Bu) du nw al de (sm_vn C) wh dt (sm_vn Lt) ag (sm_vn Nu) xh xl → wX_merge_11 post (nI a) (nI (sm_e3 q + 16777216 * c)) (nI c) (n + 1) (nI r) (nI i) (nI N) (nI S) (nI B) (nI T) all up fr (sm_vn R) (sm_vn Bu) du nw al de (sm_vn C) wh dt (sm_vn Lt) ag (sm_vn Nu) xh xl) → (∀ post n, (wY_delivery_103 post (nI s) kd fo (nI a) og su nu n (nI (r + 1)) (nI (i + 1)) (nI N) (nI S) (nI B) (nI T) yu (sm_vn (sm_un R (8 * a + q i / 32) w)) (sm_vn (sm_un Bu (8 * a + q i / 32) B)) (sm_vn (sm_un L (8 * a + q i / 32) (sm_nl (w % 3) a (q i / 32) T))) (sm_vn Lt) ag (sm_vn Nu) bx) → wY_delivery_103 post (nI s) kd fo (nI a) og su nu (n + 1) (nI r) (nI i) (nI N) (nI S) (nI B) (nI T) yu (sm_vn R) (sm_vn Bu) (sm_vn L) (sm_vn Lt) ag (sm_vn Nu) bx) → sm_MO N S B T all up fr C Lt Nu ag xh xl yu bx s a kd fo og su nu
            (fun post => ∀ n, d + 1 < n → wX_merge_11 post (nI a) (nI (sm_e3 q + 16777216 * c)) (nI c) n (nI r) (nI i) (nI N) (nI S) (nI B) (nI T) all up fr (sm_vn R) (sm_vn Bu) du nw al de (sm_vn C) wh dt (sm_vn Lt) ag (sm_vn Nu) xh xl)
            (fun post => ∀ n, d + 1 < n → wY_delivery_103 post (nI s) kd fo (nI a) og su nu n (nI r) (nI i) (nI N) (nI S) (nI B) (nI T) yu (sm_vn R) (sm_vn Bu) (sm_vn L) (sm_vn Lt) ag (sm_vn Nu) bx) := by
          intro w hw hx hy
          obtain ⟨al', de', nw', wh', dt', hV', hB', hX', hWX⟩ := sm_xraise (C := C) hV hB hX (sm_K1D (hK a ha _ u1)) c2 c6 c8 (hCK a ha) ha u1 hw
          obtain ⟨r3, R3, Bu3, L3, du3, nw3, al3, de3, wh3, dt3, g1, g2, g3, g4, gX, gY⟩ := ih (i + 1) (r + 1) _ _ _ _ nw' al' de' wh' dt' (by omega) hV' hB' hX' (sm_Ku (l := sm_nl (w % 3) a (q i / 32) T) hK c2 u1 (sm_nK c7))
          refine ⟨r3, R3, Bu3, L3, du3, nw3, al3, de3, wh3, dt3, g1, g2, g3, g4, fun post hp n hn => ?_, fun post hf n hn => ?_⟩
          · obtain ⟨n', rfl⟩ : ∃ n', n = n' + 1 := ⟨n - 1, by omega⟩
            refine hx post n' (hWX ?_)
            exact nm_r (sm_p1 r) (nm_r (sm_p1 i) (gX post hp n' (by omega)))
          · obtain ⟨n', rfl⟩ : ∃ n', n = n' + 1 := ⟨n - 1, by omega⟩
            exact hy post n' (gY post hf n' (by omega))
        have hnle : ¬ nI (q i % 32) ≤ nI (R (8 * a + q i / 32)) := nI_ge (by omega) (by omega)
        by_cases hself : q i / 32 = a ∧ q i % 32 / 3 < 9
        · refine hgo (3 * (q i % 32 / 3 + 1)) (by omega) (fun post n hp => xw post n (br_f hnle (br_t (by rw [hself.1]) (And.intro sm_n3 (br_f ?_ (br_f (by decide) (And.intro sm_n3 ?_))))))) (fun post n hp => ?_)
          · rw [sm_d3 (by omega)]
            exact nI_ge (b := 9) hself.2 (by decide)
          · rw [sm_d3 (by omega), sm_p1, sm_m3]
            exact hp
          · refine br_f hi3 ?_
            rw [sm_m10, sm_p7, nI_add]
            refine And.intro ev ?_
            rw [sm_cl (by omega), u3]
            refine nm_e (br_f (nI_pos (by omega)) (And.intro sm_n32 (And.intro sm_n32 ?_)))
            rw [sm_r32 (by omega), sm_d32 (by omega), sm_ix8]
            refine And.intro ew ?_
            rw [sm_cl (by omega), sm_va]
            refine br_f hnle (And.intro sm_n32 (nm_e (And.intro sm_n32 (br_t (by rw [hself.1]) (And.intro sm_n3 (br_f ?_ (And.intro sm_n3 ?_)))))))
            · rw [sm_d3 (by omega)]
              exact nI_ge (b := 9) hself.2 (by decide)
            · rw [sm_d3 (by omega), sm_p1 (q i % 32 / 3), sm_m3]
              rw [hself.1] at hp
              refine sm_yraise (by omega) (by omega) (by omega) ?_
              exact nm_r (sm_p1 r) (nm_r (sm_p1 i) hp)
        · have hnine : q i / 32 = a → (9 : Int32) ≤ nI (q i % 32) / 3 := by
            intro z
            rw [sm_d3 (by omega)]
            exact nI_le (a := 9) (by omega) (by omega)
          refine hgo (q i % 32) u2 (fun post n hp => xw post n (br_f hnle (br_c (fun z => And.intro sm_n3 (br_t (hnine (sm_ei z (by omega) (by omega))) (br_t rfl hp))) (fun z => br_t rfl hp)))) (fun post n hp => ?_)
          refine br_f hi3 ?_
          rw [sm_m10, sm_p7, nI_add]
          refine And.intro ev ?_
          rw [sm_cl (by omega), u3]
          refine nm_e (br_f (nI_pos (by omega)) (And.intro sm_n32 (And.intro sm_n32 ?_)))
          rw [sm_r32 (by omega), sm_d32 (by omega), sm_ix8]
          refine And.intro ew ?_
          rw [sm_cl (by omega), sm_va]
          have h200 : wY_delivery_200 post (wY_delivery_103 post (nI s) kd fo (nI a) og su nu n) (nI s) kd fo (nI a) og su nu (nI r) (nI i) (nI (q i)) (nI (q i % 32)) (nI N) (nI S) (nI B) (nI T) yu (sm_vn R) (sm_vn Bu) (sm_vn L) (sm_vn Lt) ag (sm_vn Nu) bx := by
            refine And.intro sm_n32 ?_
            rw [sm_d32 (by omega)]
            refine sm_yraise (by omega) (by omega) (by omega) ?_
            exact nm_r (sm_p1 r) (nm_r (sm_p1 i) hp)
          exact br_f hnle (And.intro sm_n32 (nm_e (And.intro sm_n32 (br_c (fun z => And.intro sm_n3 (br_t (hnine (sm_ei z (by omega) (by omega))) h200)) (fun z => h200)))))
end
end
end
section
section
/-! the head word read -/
theorem sm_hr {N kd fo to og su nu : Nat} (h : sm_H N kd fo to og su nu) (hN : N ≤ 8) : nI (sm_eh kd fo to og su nu) &&& 7 = nI kd ∧ (nI (sm_eh kd fo to og su nu) >>> ((3 : Int32) &&& 31)) &&& 7 = nI fo ∧ (nI (sm_eh kd fo to og su nu) >>> ((6 : Int32) &&& 31)) &&& 7 = nI to ∧ (nI (sm_eh kd fo to og su nu) >>> ((9 : Int32) &&& 31)) &&& 7 = nI og ∧ (nI (sm_eh kd fo to og su nu) >>> ((12 : Int32) &&& 31)) &&& 7 = nI su ∧ nI (sm_eh kd fo to og su nu) >>> ((15 : Int32) &&& 31) = nI nu := by
  obtain ⟨h1, h2, h3, h4, h5, h6, h7⟩ := h
  have hb : sm_eh kd fo to og su nu < 2147483648 := by unfold sm_eh; omega
  refine ⟨?_, ?_, ?_, ?_, ?_, ?_⟩
  · rw [sm_m7 hb]
    exact congrArg nI (by unfold sm_eh; omega)
  · rw [pk_shrN (by omega) _ 3 (by decide), sm_m7 (by omega)]
    exact congrArg nI (by unfold sm_eh; omega)
  · rw [pk_shrN (by omega) _ 6 (by decide), sm_m7 (by omega)]
    exact congrArg nI (by unfold sm_eh; omega)
  · rw [pk_shrN (by omega) _ 9 (by decide), sm_m7 (by omega)]
    exact congrArg nI (by unfold sm_eh; omega)
  · rw [pk_shrN (by omega) _ 12 (by decide), sm_m7 (by omega)]
    exact congrArg nI (by unfold sm_eh; omega)
  · rw [pk_shrN (by omega) _ 15 (by decide)]
    exact congrArg nI (by unfold sm_eh; omega)
/-! react -/
theorem sm_n12 : ¬ nI 1 = 2 := by decide
theorem sm_n13 : ¬ nI 1 = 3 := by decide
theorem sm_n21 : ¬ nI 2 = 1 := by decide
theorem sm_n23 : ¬ nI 2 = 3 := by decide
theorem sm_n31 : ¬ nI 3 = 1 := by decide
theorem sm_n32' : ¬ nI 3 = 2 := by decide
theorem sm_react {N S B T : Nat} {all up fr : Int32} {R Bu C Lt Nu : Nat → Nat} {du nw al de wh dt ag xh xl : Nat → Int32} {yu : Nat → Int32} {L : Nat → Nat} {bx : Nat → Int32} {a s kd fo og su nu : Nat} (hC : sm_C N S B T) (hV : sm_V N R al de) (hB : sm_B N B Bu nw) (hM : sm_M N S fr xh xl bx) (hP : sm_P N Lt Nu ag) (hH : sm_H N kd fo a og su nu) :
    ∃ (fr' : Int32) (Bu' : Nat → Nat) (nw' ag' xh' xl' bx' : Nat → Int32), sm_B N B Bu' nw' ∧ sm_M N S fr' xh' xl' bx' ∧ sm_P N Lt Nu ag' ∧ (∀ post, post (nI N, nI S, nI B, nI T, all, up, fr', sm_vn R, sm_vn Bu', du, nw', al, de, sm_vn C, wh, dt, sm_vn Lt, ag', sm_vn Nu, xh', xl') → wpX_react post (nI N, nI S, nI B, nI T, all, up, fr, sm_vn R, sm_vn Bu, du, nw, al, de, sm_vn C, wh, dt, sm_vn Lt, ag, sm_vn Nu, xh, xl) (nI a) (nI (sm_eh kd fo a og su nu))) ∧ ∀ post r, post r (nI N, nI S, nI B, nI T, yu, sm_vn R, sm_vn Bu', sm_vn L, sm_vn Lt, ag', sm_vn Nu, bx') → ∀ n, wY_delivery_103 post (nI s) (nI kd) (nI fo) (nI a) (nI og) (nI su) (nI nu) (n + 1) r (nI 3) (nI N) (nI S) (nI B) (nI T) yu (sm_vn R) (sm_vn Bu) (sm_vn L) (sm_vn Lt) ag (sm_vn Nu) bx := by
  have hC' := hC
  obtain ⟨c1, c2, c3, c4, c5, c6, c7, c8⟩ := hC'
  obtain ⟨e1, e2, e3, e4, e5, e6⟩ := sm_hr hH c2
  obtain ⟨h1, h2, h3, h4, h5, h6, h7⟩ := hH
  have h33 : nI 3 ≤ nI 3 := by decide
  have va : vp_in (nI a) 8 := sm_in (by omega) (by omega)
  have hk : kd = 1 ∨ kd = 2 ∨ kd = 3 := by omega
  rcases hk with rfl | rfl | rfl
  · obtain ⟨fr', Bu', nw', xh', xl', bx', g1, g2, gX, gY⟩ := sm_send T all up C Lt Nu L du wh dt ag yu hC hV hB hM (kd := 3) (a := a) (b := fo) (og := og) (su := a) (nu := nu) ⟨by omega, by omega, h4, h3, h5, h4, h7⟩
    refine ⟨fr', Bu', nw', ag, xh', xl', bx', g1, g2, hP, fun post hp => ?_, fun post r hp n => ?_⟩
    · refine nm_r e1 (nm_r e2 (nm_r e4 (nm_r e5 (nm_r e6 (br_t rfl ?_)))))
      exact gX _ hp
    · refine br_t h33 (br_t rfl (gY _ ?_))
      exact br_f sm_n12 (br_f sm_n13 (br_f sm_n13 hp))
  · obtain ⟨fr', Bu', nw', xh', xl', bx', g1, g2, gX, gY⟩ := sm_send T all up C Lt Nu L du wh dt ag yu hC hV hB hM (kd := 1) (a := a) (b := su) (og := og) (su := su) (nu := nu) ⟨by omega, by omega, h4, h6, h5, h6, h7⟩
    refine ⟨fr', Bu', nw', ag, xh', xl', bx', g1, g2, hP, fun post hp => ?_, fun post r hp n => ?_⟩
    · refine nm_r e1 (nm_r e2 (nm_r e4 (nm_r e5 (nm_r e6 (br_f sm_n21 (br_t rfl ?_))))))
      exact gX _ hp
    · refine br_t h33 (br_f sm_n21 (br_t rfl (gY _ ?_)))
      exact br_f sm_n23 (br_f sm_n23 hp)
  · by_cases eo : og = a
    · have xs : ∀ post, ((sm_vn Lt a = nI su → (vp_in (nI a) 8 ∧ ((sm_vn Nu a = nI nu → (vp_in (nI a) 8 ∧ ∀ ag' : Nat → Int32, ag' = upd ag a (-1) → post (nI N, nI S, nI B, nI T, all, up, fr, sm_vn R, sm_vn Bu, du, nw, al, de, sm_vn C, wh, dt, sm_vn Lt, ag', sm_vn Nu, xh, xl))) ∧ (¬ sm_vn Nu a = nI nu → post (nI N, nI S, nI B, nI T, all, up, fr, sm_vn R, sm_vn Bu, du, nw, al, de, sm_vn C, wh, dt, sm_vn Lt, ag, sm_vn Nu, xh, xl))))) ∧ (¬ sm_vn Lt a = nI su → post (nI N, nI S, nI B, nI T, all, up, fr, sm_vn R, sm_vn Bu, du, nw, al, de, sm_vn C, wh, dt, sm_vn Lt, ag, sm_vn Nu, xh, xl))) → wpX_react post (nI N, nI S, nI B, nI T, all, up, fr, sm_vn R, sm_vn Bu, du, nw, al, de, sm_vn C, wh, dt, sm_vn Lt, ag, sm_vn Nu, xh, xl) (nI a) (nI (sm_eh 3 fo a og su nu)) := by
        intro post hp
        refine nm_r e1 (nm_r e2 (nm_r e4 (nm_r e5 (nm_r e6 (br_f sm_n31 (br_f sm_n32' (br_t (by rw [eo]) (And.intro va ?_))))))))
        rw [sm_cl (by omega)]
        exact hp
      have ys : ∀ post r n, ((sm_vn Lt a = nI su → (vp_in (nI a) 8 ∧ ((sm_vn Nu a = nI nu → (vp_in (nI a) 8 ∧ ∀ ag' : Nat → Int32, ag' = upd ag a (-1) → post r (nI N, nI S, nI B, nI T, yu, sm_vn R, sm_vn Bu, sm_vn L, sm_vn Lt, ag', sm_vn Nu, bx))) ∧ (¬ sm_vn Nu a = nI nu → post r (nI N, nI S, nI B, nI T, yu, sm_vn R, sm_vn Bu, sm_vn L, sm_vn Lt, ag, sm_vn Nu, bx))))) ∧ (¬ sm_vn Lt a = nI su → post r (nI N, nI S, nI B, nI T, yu, sm_vn R, sm_vn Bu, sm_vn L, sm_vn Lt, ag, sm_vn Nu, bx))) → wY_delivery_103 post (nI s) (nI 3) (nI fo) (nI a) (nI og) (nI su) (nI nu) (n + 1) r (nI 3) (nI N) (nI S) (nI B) (nI T) yu (sm_vn R) (sm_vn Bu) (sm_vn L) (sm_vn Lt) ag (sm_vn Nu) bx := by
        intro post r n hp
        refine br_t h33 (br_f sm_n31 (br_f sm_n32' (br_t rfl (br_t (by rw [eo]) (br_t rfl (br_t (by rw [eo]) (And.intro va ?_)))))))
        rw [sm_cl (by omega)]
        exact hp
      obtain ⟨p1, p2, -⟩ := hP a h4
      by_cases el : Lt a = su
      · by_cases en : Nu a = nu
        · refine ⟨fr, Bu, nw, upd ag a (-1), xh, xl, bx, hB, hM, fun a' ha' => ?_, fun post hp => xs post (br_t ?_ (And.intro va (br_t ?_ (And.intro va (nm_e hp))))), fun post r hp n => ys post r n (br_t ?_ (And.intro va (br_t ?_ (And.intro va (nm_e hp)))))⟩
          · by_cases e : a' = a
            · rw [e, pk_us]; exact ⟨p1, p2, Or.inl rfl⟩
            · rw [pk_un e]; exact hP a' ha'
          all_goals first | (rw [sm_va, el]; done) | (rw [sm_va, en]; done)
        · have hne : ¬ sm_vn Nu a = nI nu := sm_ne (by omega) (by omega) en
          have hle : sm_vn Lt a = nI su := by rw [sm_va, el]
          exact ⟨fr, Bu, nw, ag, xh, xl, bx, hB, hM, hP, fun post hp => xs post (br_t hle (And.intro va (br_f hne hp))), fun post r hp n => ys post r n (br_t hle (And.intro va (br_f hne hp)))⟩
      · have hne : ¬ sm_vn Lt a = nI su := sm_ne (by omega) (by omega) el
        exact ⟨fr, Bu, nw, ag, xh, xl, bx, hB, hM, hP, fun post hp => xs post (br_f hne hp), fun post r hp n => ys post r n (br_f hne hp)⟩
    · obtain ⟨fr', Bu', nw', xh', xl', bx', g1, g2, gX, gY⟩ := sm_send T all up C Lt Nu L du wh dt ag yu hC hV hB hM (kd := 3) (a := a) (b := og) (og := og) (su := su) (nu := nu) ⟨by omega, by omega, h4, h5, h5, h6, h7⟩
      have hne : ¬ nI og = nI a := sm_ne (by omega) (by omega) eo
      refine ⟨fr', Bu', nw', ag, xh', xl', bx', g1, g2, hP, fun post hp => ?_, fun post r hp n => ?_⟩
      · refine nm_r e1 (nm_r e2 (nm_r e4 (nm_r e5 (nm_r e6 (br_f sm_n31 (br_f sm_n32' (br_f hne ?_)))))))
        exact gX _ hp
      · refine br_t h33 (br_f sm_n31 (br_f sm_n32' (br_t rfl (br_f hne (gY _ ?_)))))
        exact br_t rfl (br_f hne hp)
/-- a slot given back -/
theorem sm_Mfree {N S s : Nat} {fr : Int32} {xh xl bx : Nat → Int32} (hM : sm_M N S fr xh xl bx) (hs : s < S) (hS : S ≤ 24) : sm_M N S (sm_ob fr s) xh xl (upd bx (10 * s) 0) := by
  refine ⟨fun i hi hb => ?_, fun s' hs' => ?_⟩
  · rw [sm_obb fr (by omega) hi, Bool.or_eq_true, decide_eq_true_eq] at hb
    rcases hb with hb | hb
    · exact hM.1 i hi hb
    · rw [hb]; exact hs
  · rw [sm_obb fr (by omega) (by omega)]
    by_cases e : s' = s
    · subst e
      rw [pk_us]
      exact ⟨by simp, fun z => absurd rfl z⟩
    · rw [pk_un (by omega), (hM.2 s' hs').1, decide_eq_false e, Bool.or_false]
      refine ⟨rfl, fun z => sm_Wc (fun j hj => ?_) ((hM.2 s' hs').2 z)⟩
      rw [pk_un (by omega)]
/-- one outcome with any answer -/
def sm_HO (N S B T : Nat) (all up : Int32) (yu : Nat → Int32) (WX : (Int32 → SX → Prop) → Prop) (WY : (Int32 → SY → Prop) → Prop) : Prop := ∃ (r : Int32) (u : SX) (v : SY), sm_I N S B T all up yu u v ∧ (∀ post, post r u → WX post) ∧ ∀ post, post r v → WY post
theorem sm_handle {N S B T : Nat} {all up fr : Int32} {R Bu C Lt Nu : Nat → Nat} {du nw al de wh dt ag xh xl : Nat → Int32} {yu : Nat → Int32} {L : Nat → Nat} {bx : Nat → Int32} {s : Nat} (h : sm_R N S B T all up fr R Bu C Lt Nu L du nw al de wh dt ag xh xl yu bx) (hs : s < S) (ho : ¬ bx (10 * s) = 0) : sm_HO N S B T all up yu
    (fun post => wpX_handle post (nI N, nI S, nI B, nI T, all, up, fr, sm_vn R, sm_vn Bu, du, nw, al, de, sm_vn C, wh, dt, sm_vn Lt, ag, sm_vn Nu, xh, xl) (nI s)) (fun post => wpY_delivery post (nI N, nI S, nI B, nI T, yu, sm_vn R, sm_vn Bu, sm_vn L, sm_vn Lt, ag, sm_vn Nu, bx) (nI s)) := by
  obtain ⟨hC, hA, hU, hV, hB, hX, hCK, hK, hP, hM⟩ := h
  have hC' := hC
  obtain ⟨c1, c2, c3, c4, c5, c6, c7, c8⟩ := hC'
  obtain ⟨kd, fo, to, og, su, nu, c, q, hH, ⟨w0, w1, w2, w3, w4, w5⟩, w6, ⟨hc3, hq⟩, hhd, hls⟩ := (hM.2 s hs).2 ho
  dsimp only at w0 w1 w2 w3 w4 w5 w6 hq
  rw [Nat.add_zero] at w0
  obtain ⟨e1, e2, e3, e4, e5, e6⟩ := sm_hr hH c2
  have hto := hH.2.2.2.1
  have hM' := sm_Mfree hM hs c4
  have vs : vp_in (nI s) 24 := sm_in (by omega) (by omega)
  have hyu := hU to hto
  -- the walks down to the test of the receiver
  have xw : ∀ post, wpX_has (fun r_5 => ((r_5 = 0 → post (-2) (nI N, nI S, nI B, nI T, all, up, sm_ob fr s, sm_vn R, sm_vn Bu, du, nw, al, de, sm_vn C, wh, dt, sm_vn Lt, ag, sm_vn Nu, xh, xl)) ∧ (¬ r_5 = 0 → (vp_in (nI s) 24 ∧ wpX_merge (fun r_29 u => wpX_react (fun u => post r_29 u) u (nI to) (nI (sm_eh kd fo to og su nu))) (nI N, nI S, nI B, nI T, all, up, sm_ob fr s, sm_vn R, sm_vn Bu, du, nw, al, de, sm_vn C, wh, dt, sm_vn Lt, ag, sm_vn Nu, xh, xl) (nI to) (nI (sm_e3 q + 16777216 * c)))))) (nI N, nI S, nI B, nI T, all, up, sm_ob fr s, sm_vn R, sm_vn Bu, du, nw, al, de, sm_vn C, wh, dt, sm_vn Lt, ag, sm_vn Nu, xh, xl) up (nI to) → wpX_handle post (nI N, nI S, nI B, nI T, all, up, fr, sm_vn R, sm_vn Bu, du, nw, al, de, sm_vn C, wh, dt, sm_vn Lt, ag, sm_vn Nu, xh, xl) (nI s) := by
    intro post hp
    refine And.intro vs ?_
    rw [sm_cl (by omega), hhd, hls]
    exact nm_e (nm_e (nm_r e3 hp))
  have yw : ∀ post, ((yu to = 0 → post (-2) (nI N, nI S, nI B, nI T, yu, sm_vn R, sm_vn Bu, sm_vn L, sm_vn Lt, ag, sm_vn Nu, upd bx (10 * s) 0)) ∧ (¬ yu to = 0 → ∃ n, wY_delivery_103 post (nI s) (nI kd) (nI fo) (nI to) (nI og) (nI su) (nI nu) n 0 0 (nI N) (nI S) (nI B) (nI T) yu (sm_vn R) (sm_vn Bu) (sm_vn L) (sm_vn Lt) ag (sm_vn Nu) (upd bx (10 * s) 0))) → wpY_delivery post (nI N, nI S, nI B, nI T, yu, sm_vn R, sm_vn Bu, sm_vn L, sm_vn Lt, ag, sm_vn Nu, bx) (nI s) := by
    intro post hp
    simp (disch := omega) only [wpY_delivery, sm_m10, sm_p1, sm_p2, sm_p3, sm_p4, sm_p5, sm_cl, sm_inT, true_and, forall_eq, w0, w1, w2, w3, w4, w5]
    exact hp
  cases hb : bt up to with
  | false =>
    refine ⟨-2, _, _, sm_Ii ⟨hC, hA, hU, hV, hB, hX, hCK, hK, hP, hM'⟩, fun post hp => xw post (sm_hF (by omega) hb hp), fun post hp => yw post (br_t ?_ hp)⟩
    rw [hyu, hb]; rfl
  | true =>
    have hq' : ∀ i, i < 3 → (i < c → q i / 32 < N ∧ q i % 32 ≤ 29 ∧ upd bx (10 * s) 0 (10 * s + 7 + i) = nI (q i)) ∧ (c ≤ i → q i = 0 ∧ upd bx (10 * s) 0 (10 * s + 7 + i) = -1) := by
      intro i hi
      rw [pk_un (by omega), Nat.add_assoc]
      exact hq i hi
    have hql : ∀ i, i < 3 → q i < 256 := by
      intro i hi
      by_cases e : i < c
      · have := (hq i hi).1 e
        omega
      · rw [((hq i hi).2 (by omega)).1]; omega
    obtain ⟨r, R2, Bu2, L2, du2, nw2, al2, de2, wh2, dt2, g1, g2, g3, g4, gX, gY⟩ := sm_merge_l (all := all) (up := up) (fr := sm_ob fr s) (Lt := Lt) (Nu := Nu) (ag := ag) (xh := xh) (xl := xl) (yu := yu) (kd := nI kd) (fo := nI fo) (og := nI og) (su := nI su) (nu := nI nu) hC hCK hto (by omega) hc3 hq' 3 0 0 R Bu L du nw al de wh dt (by omega) hV hB hX hK
    obtain ⟨fr3, Bu3, nw3, ag3, xh3, xl3, bx3, k1, k2, k3, kX, kY⟩ := sm_react (s := s) (all := all) (up := up) (C := C) (L := L2) (du := du2) (wh := wh2) (dt := dt2) (yu := yu) hC g1 g2 hM' hP hH
    refine ⟨nI r, _, _, sm_Ii ⟨hC, hA, hU, g1, k1, g3, hCK, g4, k3, k2⟩, fun post hp => xw post (sm_hT (by omega) hb (And.intro vs ?_)), fun post hp => yw post (br_f ?_ ⟨4, gY post (fun n => kY post (nI r) hp n) 4 (by omega)⟩)⟩
    · refine nm_r (sm_lc (hql 0 (by omega)) (hql 1 (by omega)) (hql 2 (by omega)) hc3) ⟨4, gX _ ?_ 4 (by omega)⟩
      exact kX _ hp
    · rw [hyu, hb]; decide
/-! occupied slots -/
theorem sm_ocT {A A' : Prop} {N S B T : Nat} {all up fr : Int32} {R Bu C Lt Nu : Nat → Nat} {du nw al de wh dt ag xh xl : Nat → Int32} {s : Nat} (hS : S ≤ 24) (hs : s < S) (h : bt fr s = false) (g : A') : wpX_isOccupied (fun r => (r = 0 → A) ∧ (¬ r = 0 → A')) (nI N, nI S, nI B, nI T, all, up, fr, sm_vn R, sm_vn Bu, du, nw, al, de, sm_vn C, wh, dt, sm_vn Lt, ag, sm_vn Nu, xh, xl) (nI s) :=
  br_f (nI_pos (by omega)) (br_f (nI_ge hs (by omega)) (sm_hF (by omega) h (br_f (by decide) g)))
theorem sm_ocF {A A' : Prop} {N S B T : Nat} {all up fr : Int32} {R Bu C Lt Nu : Nat → Nat} {du nw al de wh dt ag xh xl : Nat → Int32} {s : Nat} (hS : S ≤ 24) (hs : s < S) (h : bt fr s = true) (g : A) : wpX_isOccupied (fun r => (r = 0 → A) ∧ (¬ r = 0 → A')) (nI N, nI S, nI B, nI T, all, up, fr, sm_vn R, sm_vn Bu, du, nw, al, de, sm_vn C, wh, dt, sm_vn Lt, ag, sm_vn Nu, xh, xl) (nI s) :=
  br_f (nI_pos (by omega)) (br_f (nI_ge hs (by omega)) (sm_hT (by omega) h (br_t rfl g)))
theorem sm_ocN {A A' : Prop} {N S B T : Nat} {all up fr : Int32} {R Bu C Lt Nu : Nat → Nat} {du nw al de wh dt ag xh xl : Nat → Int32} {x : Int32} (h : x < 0 ∨ nI S ≤ x) (g : A) : wpX_isOccupied (fun r => (r = 0 → A) ∧ (¬ r = 0 → A')) (nI N, nI S, nI B, nI T, all, up, fr, sm_vn R, sm_vn Bu, du, nw, al, de, sm_vn C, wh, dt, sm_vn Lt, ag, sm_vn Nu, xh, xl) x :=
  br_c (fun _ => br_t rfl g) (fun z => br_t (h.resolve_left z) (br_t rfl g))
theorem sm_yoT {A A' : Prop} {N S B T : Nat} {R Bu Lt Nu L : Nat → Nat} {yu ag bx : Nat → Int32} {s : Nat} (hS : S ≤ 24) (hs : s < S) (h : ¬ bx (10 * s) = 0) (g : A') : wpY_occupied (fun r => (r = 0 → A) ∧ (¬ r = 0 → A')) (nI N, nI S, nI B, nI T, yu, sm_vn R, sm_vn Bu, sm_vn L, sm_vn Lt, ag, sm_vn Nu, bx) (nI s) := by
  refine br_f (nI_pos (by omega)) (br_f (nI_ge hs (by omega)) ?_)
  rw [sm_m10]
  refine And.intro (sm_in (by omega) (by omega)) ?_
  rw [sm_cl (by omega)]
  exact br_f h (br_f (by decide) g)
theorem sm_yoF {A A' : Prop} {N S B T : Nat} {R Bu Lt Nu L : Nat → Nat} {yu ag bx : Nat → Int32} {s : Nat} (hS : S ≤ 24) (hs : s < S) (h : bx (10 * s) = 0) (g : A) : wpY_occupied (fun r => (r = 0 → A) ∧ (¬ r = 0 → A')) (nI N, nI S, nI B, nI T, yu, sm_vn R, sm_vn Bu, sm_vn L, sm_vn Lt, ag, sm_vn Nu, bx) (nI s) := by
  refine br_f (nI_pos (by omega)) (br_f (nI_ge hs (by omega)) ?_)
  rw [sm_m10]
  refine And.intro (sm_in (by omega) (by omega)) ?_
  rw [sm_cl (by omega)]
  exact br_t h (br_t rfl g)
theorem sm_yoN {A A' : Prop} {N S B T : Nat} {R Bu Lt Nu L : Nat → Nat} {yu ag bx : Nat → Int32} {x : Int32} (h : x < 0 ∨ nI S ≤ x) (g : A) : wpY_occupied (fun r => (r = 0 → A) ∧ (¬ r = 0 → A')) (nI N, nI S, nI B, nI T, yu, sm_vn R, sm_vn Bu, sm_vn L, sm_vn Lt, ag, sm_vn Nu, bx) x :=
  br_c (fun _ => br_t rfl g) (fun z => br_t (h.resolve_left z) (br_t rfl g))
/-- sweep -/
theorem sm_sweep_l {N S B T : Nat} {all up : Int32} {yu : Nat → Int32} : ∀ (d s : Nat) (r : Int32) (fr : Int32) (R Bu C Lt Nu L : Nat → Nat) (du nw al de wh dt ag xh xl bx : Nat → Int32), s + d = S → sm_R N S B T all up fr R Bu C Lt Nu L du nw al de wh dt ag xh xl yu bx → sm_HO N S B T all up yu
    (fun post => wX_sweep_4 post (d + 1) r (nI s) (nI N) (nI S) (nI B) (nI T) all up fr (sm_vn R) (sm_vn Bu) du nw al de (sm_vn C) wh dt (sm_vn Lt) ag (sm_vn Nu) xh xl)
    (fun post => wY_sweep_4 post (d + 1) r (nI s) (nI N) (nI S) (nI B) (nI T) yu (sm_vn R) (sm_vn Bu) (sm_vn L) (sm_vn Lt) ag (sm_vn Nu) bx) := by
  intro d
  induction d with
  | zero =>
    intro s r fr R Bu C Lt Nu L du nw al de wh dt ag xh xl bx hs h
    have c4 := h.1.2.2.2.1
    have hle : nI S ≤ nI s := nI_le (by omega) (by omega)
    exact ⟨r, _, _, sm_Ii h, fun post hp => br_t hle hp, fun post hp => br_t hle hp⟩
  | succ d ih =>
    intro s r fr R Bu C Lt Nu L du nw al de wh dt ag xh xl bx hs h
    have c4 := h.1.2.2.2.1
    have hnl : ¬ nI S ≤ nI s := nI_ge (by omega) (by omega)
    have hfr := (h.2.2.2.2.2.2.2.2.2.2 s (by omega)).1
    by_cases ho : bx (10 * s) = 0
    · rw [decide_eq_true ho] at hfr
      obtain ⟨r3, u3, v3, I3, kX, kY⟩ := ih (s + 1) r fr R Bu C Lt Nu L du nw al de wh dt ag xh xl bx (by omega) h
      refine ⟨r3, u3, v3, I3, fun post hp => br_f hnl (sm_ocF c4 (by omega) hfr (nm_r (sm_p1 s) (kX post hp))), fun post hp => br_f hnl (sm_yoF c4 (by omega) ho ?_)⟩
      exact br_t (by decide) (nm_r (sm_p1 s) (kY post hp))
    · rw [decide_eq_false ho] at hfr
      obtain ⟨r2, u2, v2, I2, fX, fY⟩ := sm_handle h (by omega) ho
      obtain ⟨fr2, R2, Bu2, C2, Lt2, Nu2, L2, du2, nw2, al2, de2, wh2, dt2, ag2, xh2, xl2, bx2, hR2, rfl, rfl⟩ := I2
      by_cases hr : r2 ≤ 0
      · obtain ⟨r3, u3, v3, I3, kX, kY⟩ := ih (s + 1) r fr2 R2 Bu2 C2 Lt2 Nu2 L2 du2 nw2 al2 de2 wh2 dt2 ag2 xh2 xl2 bx2 (by omega) hR2
        refine ⟨r3, u3, v3, I3, fun post hp => br_f hnl (sm_ocT c4 (by omega) hfr (fX _ ?_)), fun post hp => br_f hnl (sm_yoT c4 (by omega) ho (fY _ ?_))⟩
        · exact br_t hr (nm_r (sm_p1 s) (kX post hp))
        · exact br_t hr (nm_r (sm_p1 s) (kY post hp))
      · obtain ⟨r3, u3, v3, I3, kX, kY⟩ := ih (s + 1) (r + r2) fr2 R2 Bu2 C2 Lt2 Nu2 L2 du2 nw2 al2 de2 wh2 dt2 ag2 xh2 xl2 bx2 (by omega) hR2
        refine ⟨r3, u3, v3, I3, fun post hp => br_f hnl (sm_ocT c4 (by omega) hfr (fX _ ?_)), fun post hp => br_f hnl (sm_yoT c4 (by omega) ho (fY _ ?_))⟩
        · exact br_f hr (nm_e (nm_r (sm_p1 s) (kX post hp)))
        · exact br_f hr (nm_e (nm_r (sm_p1 s) (kY post hp)))
end
end
section
section
/-! nodes -/
theorem sm_ix (x : Int32) {n : Nat} (hn : n ≤ 24) : (x < 0 ∨ nI n ≤ x) ∨ ∃ j : Nat, j < n ∧ x = nI j := by
  rcases pk_ix x (n := n) (by omega) with h | h | h
  · exact Or.inl (Or.inl h)
  · exact Or.inl (Or.inr h)
  · exact Or.inr h
theorem sm_ndT {A A' : Prop} {N S B T : Nat} {all up fr : Int32} {R Bu C Lt Nu : Nat → Nat} {du nw al de wh dt ag xh xl : Nat → Int32} {a : Nat} (hN : N ≤ 8) (ha : a < N) (g : A') : wpX_isNode (fun r => (r = 0 → A) ∧ (¬ r = 0 → A')) (nI N, nI S, nI B, nI T, all, up, fr, sm_vn R, sm_vn Bu, du, nw, al, de, sm_vn C, wh, dt, sm_vn Lt, ag, sm_vn Nu, xh, xl) (nI a) := br_f (nI_pos (by omega)) (br_f (nI_ge ha (by omega)) (br_f (by decide) g))
theorem sm_ndF {A A' : Prop} {N S B T : Nat} {all up fr : Int32} {R Bu C Lt Nu : Nat → Nat} {du nw al de wh dt ag xh xl : Nat → Int32} {x : Int32} (h : x < 0 ∨ nI N ≤ x) (g : A) : wpX_isNode (fun r => (r = 0 → A) ∧ (¬ r = 0 → A')) (nI N, nI S, nI B, nI T, all, up, fr, sm_vn R, sm_vn Bu, du, nw, al, de, sm_vn C, wh, dt, sm_vn Lt, ag, sm_vn Nu, xh, xl) x := br_c (fun _ => br_t rfl g) (fun z => br_t (h.resolve_left z) (br_t rfl g))
theorem sm_ynT {A A' : Prop} {N S B T : Nat} {R Bu Lt Nu L : Nat → Nat} {yu ag bx : Nat → Int32} {a : Nat} (hN : N ≤ 8) (ha : a < N) (g : A') : wpY_isNode (fun r => (r = 0 → A) ∧ (¬ r = 0 → A')) (nI N, nI S, nI B, nI T, yu, sm_vn R, sm_vn Bu, sm_vn L, sm_vn Lt, ag, sm_vn Nu, bx) (nI a) := br_f (nI_pos (by omega)) (br_f (nI_ge ha (by omega)) (br_f (by decide) g))
theorem sm_ynF {A A' : Prop} {N S B T : Nat} {R Bu Lt Nu L : Nat → Nat} {yu ag bx : Nat → Int32} {x : Int32} (h : x < 0 ∨ nI N ≤ x) (g : A) : wpY_isNode (fun r => (r = 0 → A) ∧ (¬ r = 0 → A')) (nI N, nI S, nI B, nI T, yu, sm_vn R, sm_vn Bu, sm_vn L, sm_vn Lt, ag, sm_vn Nu, bx) x := br_c (fun _ => br_t rfl g) (fun z => br_t (h.resolve_left z) (br_t rfl g))
theorem sm_upT {A A' : Prop} {N S B T : Nat} {all up fr : Int32} {R Bu C Lt Nu : Nat → Nat} {du nw al de wh dt ag xh xl : Nat → Int32} {a : Nat} (hN : N ≤ 8) (ha : a < N) (hb : bt up a = true) (g : A') : wpX_isUp (fun r => (r = 0 → A) ∧ (¬ r = 0 → A')) (nI N, nI S, nI B, nI T, all, up, fr, sm_vn R, sm_vn Bu, du, nw, al, de, sm_vn C, wh, dt, sm_vn Lt, ag, sm_vn Nu, xh, xl) (nI a) := by
  unfold wpX_isUp
  exact sm_ndT hN ha (sm_hT (by omega) hb (br_f (by decide) g))
theorem sm_upF {A A' : Prop} {N S B T : Nat} {all up fr : Int32} {R Bu C Lt Nu : Nat → Nat} {du nw al de wh dt ag xh xl : Nat → Int32} {a : Nat} (hN : N ≤ 8) (ha : a < N) (hb : bt up a = false) (g : A) : wpX_isUp (fun r => (r = 0 → A) ∧ (¬ r = 0 → A')) (nI N, nI S, nI B, nI T, all, up, fr, sm_vn R, sm_vn Bu, du, nw, al, de, sm_vn C, wh, dt, sm_vn Lt, ag, sm_vn Nu, xh, xl) (nI a) := by
  unfold wpX_isUp
  exact sm_ndT hN ha (sm_hF (by omega) hb (br_t rfl g))
theorem sm_upN {A A' : Prop} {N S B T : Nat} {all up fr : Int32} {R Bu C Lt Nu : Nat → Nat} {du nw al de wh dt ag xh xl : Nat → Int32} {x : Int32} (h : x < 0 ∨ nI N ≤ x) (g : A) : wpX_isUp (fun r => (r = 0 → A) ∧ (¬ r = 0 → A')) (nI N, nI S, nI B, nI T, all, up, fr, sm_vn R, sm_vn Bu, du, nw, al, de, sm_vn C, wh, dt, sm_vn Lt, ag, sm_vn Nu, xh, xl) x := by
  unfold wpX_isUp
  exact sm_ndF h (br_t rfl g)
/-! the constructors -/
theorem sm_clamp (x : Int32) (lo hi : Nat) (h : lo ≤ hi) (hh : hi < 1000) : ∃ n, lo ≤ n ∧ n ≤ hi ∧ (∀ (post : Int32 → Prop) (u : SX), post (nI n) → wpX_clamp post u x (nI lo) (nI hi)) ∧ ∀ (post : Int32 → Prop) (v : SY), post (nI n) → wpY_clamp post v x (nI lo) (nI hi) := by
  by_cases e1 : nI lo ≤ x
  · have h0 : ¬ x < 0 := by
      intro z
      have := nI_pos' (n := lo) (by omega)
      rw [Int32.le_iff_toInt_le] at e1 this
      rw [Int32.lt_iff_toInt_lt] at z
      omega
    obtain ⟨j, hj, rfl⟩ := nI_of h0
    rw [nI_leI (by omega) hj] at e1
    by_cases e2 : j ≤ hi
    · refine ⟨j, e1, e2, fun post u hp => ?_, fun post v hp => ?_⟩
      · obtain ⟨a1, a2, a3, a4, a5, a6, a7, a8, a9, a10, a11, a12, a13, a14, a15, a16, a17, a18, a19, a20, a21⟩ := u
        exact br_t (nI_le e1 hj) (br_t (nI_le e2 (by omega)) hp)
      · obtain ⟨a1, a2, a3, a4, a5, a6, a7, a8, a9, a10, a11, a12⟩ := v
        exact br_t (nI_le e1 hj) (br_t (nI_le e2 (by omega)) hp)
    · refine ⟨hi, h, Nat.le_refl _, fun post u hp => ?_, fun post v hp => ?_⟩
      · obtain ⟨a1, a2, a3, a4, a5, a6, a7, a8, a9, a10, a11, a12, a13, a14, a15, a16, a17, a18, a19, a20, a21⟩ := u
        exact br_t (nI_le e1 hj) (br_f (nI_ge (by omega) hj) hp)
      · obtain ⟨a1, a2, a3, a4, a5, a6, a7, a8, a9, a10, a11, a12⟩ := v
        exact br_t (nI_le e1 hj) (br_f (nI_ge (by omega) hj) hp)
  · refine ⟨lo, Nat.le_refl _, h, fun post u hp => ?_, fun post v hp => ?_⟩
    · obtain ⟨a1, a2, a3, a4, a5, a6, a7, a8, a9, a10, a11, a12, a13, a14, a15, a16, a17, a18, a19, a20, a21⟩ := u
      exact br_f e1 hp
    · obtain ⟨a1, a2, a3, a4, a5, a6, a7, a8, a9, a10, a11, a12⟩ := v
      exact br_f e1 hp
def sm_fj (j : Nat) (x : Int32) : Nat → Int32 := fun k => if k < j then x else 0
theorem sm_fj0 (x : Int32) : sm_fj 0 x = fun _ => 0 := by
  funext k
  exact if_neg (by omega)
theorem sm_fjs (j : Nat) (x : Int32) : upd (sm_fj j x) j x = sm_fj (j + 1) x := by
  funext k
  unfold upd sm_fj
  by_cases e : k = j
  · rw [if_pos e, if_pos (by omega)]
  · rw [if_neg e]
    by_cases e2 : k < j
    · rw [if_pos e2, if_pos (by omega)]
    · rw [if_neg e2, if_neg (by omega)]
def sm_f8 (j : Nat) (x : Int32) : Nat → Int32 := fun k => if k % 8 = 0 ∧ k < 8 * j then x else 0
theorem sm_f80 (x : Int32) : sm_f8 0 x = fun _ => 0 := by
  funext k
  exact if_neg (by omega)
theorem sm_f8s (j : Nat) (x : Int32) : upd (sm_f8 j x) (8 * j) x = sm_f8 (j + 1) x := by
  funext k
  unfold upd sm_f8
  by_cases e : k = 8 * j
  · rw [if_pos e, if_pos (by omega)]
  · rw [if_neg e]
    by_cases e2 : k % 8 = 0 ∧ k < 8 * j
    · rw [if_pos e2, if_pos (by omega)]
    · rw [if_neg e2, if_neg (by omega)]
def sm_fi (j : Nat) : Nat → Nat := fun k => if k < j then k else 0
theorem sm_fi0 : sm_vn (sm_fi 0) = fun _ => 0 := by
  funext k
  unfold sm_vn sm_fi
  rw [if_neg (by omega)]
  rfl
theorem sm_fis (j : Nat) : sm_un (sm_fi j) j j = sm_fi (j + 1) := by
  funext k
  unfold sm_un sm_fi
  by_cases e : k = j
  · rw [if_pos e, if_pos (by omega), e]
  · rw [if_neg e]
    by_cases e2 : k < j
    · rw [if_pos e2, if_pos (by omega)]
    · rw [if_neg e2, if_neg (by omega)]
theorem sm_vb0 : vp_nar .boolean 0 = 0 := by decide
theorem sm_vb1 : vp_nar .boolean 1 = 1 := by decide
theorem sm_x260 {N S B T : Nat} {all up fr : Int32} {R Bu C Lt Nu : Nat → Nat} {nw al de wh dt ag xh xl : Nat → Int32} {post : SX → Prop} (hp : post (nI N, nI S, nI B, nI T, all, up, fr, sm_vn R, sm_vn Bu, sm_fj 64 (-1), nw, al, de, sm_vn C, wh, dt, sm_vn Lt, ag, sm_vn Nu, xh, xl)) : ∀ d j, j + d = 64 → wX_init_260 post (nI N) (nI S) (nI B) (nI T) all up fr (d + 1) (nI j) (sm_vn R) (sm_vn Bu) (sm_fj j (-1)) nw al de (sm_vn C) wh dt (sm_vn Lt) ag (sm_vn Nu) xh xl := by
  intro d
  induction d with
  | zero =>
    intro j hj
    have e : j = 64 := by omega
    subst e
    exact br_t (show nI 64 ≤ nI 64 by decide) hp
  | succ d ih =>
    intro j hj
    refine br_f (nI_ge (b := 64) (by omega) (by decide)) (And.intro (sm_in (by omega) (by omega)) ?_)
    rw [sm_cl (by omega), sm_fjs]
    exact nm_e (nm_r (sm_p1 j) (ih (j + 1) (by omega)))
theorem sm_x202 {N S B T : Nat} {all up fr : Int32} {R Bu C Nu : Nat → Nat} {de wh dt xh xl : Nat → Int32} {post : SX → Prop} (hp : post (nI N, nI S, nI B, nI T, all, up, fr, sm_vn R, sm_vn Bu, sm_fj 64 (-1), sm_f8 8 all, sm_fj 8 all, de, sm_vn C, wh, dt, sm_vn (sm_fi 8), sm_fj 8 (-1), sm_vn Nu, xh, xl)) : ∀ d j, j + d = 8 → wX_init_202 post (nI N) (nI S) (nI B) (nI T) all up fr (d + 1) (nI j) (sm_vn R) (sm_vn Bu) (fun _ => 0) (sm_f8 j all) (sm_fj j all) de (sm_vn C) wh dt (sm_vn (sm_fi j)) (sm_fj j (-1)) (sm_vn Nu) xh xl := by
  intro d
  induction d with
  | zero =>
    intro j hj
    have e : j = 8 := by omega
    subst e
    refine br_t (show nI 8 ≤ nI 8 by decide) ⟨65, ?_⟩
    have := sm_x260 hp 64 0 (by omega)
    rw [sm_fj0] at this
    exact this
  | succ d ih =>
    intro j hj
    have vj : vp_in (nI j) 8 := sm_in (by omega) (by omega)
    refine br_f (nI_ge (b := 8) (by omega) (by decide)) (And.intro vj ?_)
    rw [sm_cl (by omega), sm_fjs, sm_m8]
    refine nm_e (And.intro (sm_in (by omega) (by omega)) ?_)
    rw [sm_cl (by omega), sm_f8s]
    refine nm_e (And.intro vj ?_)
    rw [sm_vu, sm_fis]
    refine nm_e (And.intro vj ?_)
    rw [sm_fjs]
    exact nm_e (nm_r (sm_p1 j) (ih (j + 1) (by omega)))
theorem sm_y122 {N S B T : Nat} {R Bu L Nu : Nat → Nat} {bx : Nat → Int32} {post : SY → Prop} (hp : post (nI N, nI S, nI B, nI T, sm_fj 8 1, sm_vn R, sm_vn Bu, sm_vn L, sm_vn (sm_fi 8), sm_fj 8 (-1), sm_vn Nu, bx)) : ∀ d j, j + d = 8 → wY_init_122 post (nI N) (nI S) (nI B) (nI T) (d + 1) (nI j) (sm_fj j 1) (sm_vn R) (sm_vn Bu) (sm_vn L) (sm_vn (sm_fi j)) (sm_fj j (-1)) (sm_vn Nu) bx := by
  intro d
  induction d with
  | zero =>
    intro j hj
    have e : j = 8 := by omega
    subst e
    exact br_t (show nI 8 ≤ nI 8 by decide) hp
  | succ d ih =>
    intro j hj
    have vj : vp_in (nI j) 8 := sm_in (by omega) (by omega)
    refine br_f (nI_ge (b := 8) (by omega) (by decide)) (And.intro vj ?_)
    rw [sm_cl (by omega), sm_vb1, sm_fjs]
    refine nm_e (And.intro vj ?_)
    rw [sm_vu, sm_fis]
    refine nm_e (And.intro vj ?_)
    rw [sm_fjs]
    exact nm_e (nm_r (sm_p1 j) (ih (j + 1) (by omega)))
theorem sm_R0 {N S B T : Nat} (hC : sm_C N S B T) : sm_R N S B T (((1 : Int32) <<< (nI N &&& 31)) - 1) (((1 : Int32) <<< (nI N &&& 31)) - 1) (((1 : Int32) <<< (nI S &&& 31)) - 1) (fun _ => 0) (fun _ => 0) (fun _ => 0) (sm_fi 8) (fun _ => 0) (fun _ => 0) (sm_fj 64 (-1)) (sm_f8 8 (((1 : Int32) <<< (nI N &&& 31)) - 1)) (sm_fj 8 (((1 : Int32) <<< (nI N &&& 31)) - 1)) (fun _ => 0) (fun _ => 0) (fun _ => 0) (sm_fj 8 (-1)) (fun _ => 0) (fun _ => 0) (sm_fj 8 1) (fun _ => 0) := by
  have hC' := hC
  obtain ⟨c1, c2, c3, c4, c5, c6, c7, c8⟩ := hC'
  have hA : sm_A N (((1 : Int32) <<< (nI N &&& 31)) - 1) := fun i hi => sm_bm1 N (by omega) i hi
  have fj : ∀ {k j : Nat} {x : Int32}, k < j → sm_fj j x k = x := fun h => if_pos h
  have hdu : ∀ a, a < N → ∀ i, i < N → sm_fj 64 (-1) (8 * a + i) = -1 := fun a ha i hi => fj (by omega)
  refine ⟨hC, hA, ?_, ⟨fun _ => Nat.zero_le _, ?_⟩, ⟨fun _ => Nat.zero_le _, ?_⟩, ⟨?_, ?_⟩, ?_, ?_, ?_, ⟨?_, ?_⟩⟩
  · intro a ha
    rw [fj (by omega), hA a (by omega), decide_eq_true ha]
    rfl
  · intro a ha i hi
    rw [fj (by omega), hA i hi, b_0]
    exact ⟨by simp, by simp⟩
  · intro a ha l hl i hi
    by_cases e : l = 0
    · subst e
      have e2 : sm_f8 8 (((1 : Int32) <<< (nI N &&& 31)) - 1) (8 * a + 0) = ((1 : Int32) <<< (nI N &&& 31)) - 1 := if_pos (by omega)
      rw [e2, hA i hi]
      simp
    · have e2 : sm_f8 8 (((1 : Int32) <<< (nI N &&& 31)) - 1) (8 * a + l) = 0 := if_neg (by omega)
      rw [e2, b_0, decide_eq_false (fun z => e z.2.symm)]
  · intro a ha t ht i hi
    rw [b_0]
    symm
    apply decide_eq_false
    rintro ⟨z1, z2⟩
    rw [hdu a ha i z1] at z2
    exact sm_m1n (by omega) z2
  · intro a ha t ht
    rw [b_0]
    simp
  · intro a ha
    show 0 < 32
    omega
  · intro a ha m hm
    exact Or.inl ⟨rfl, hdu a ha m hm⟩
  · intro a ha
    have e : sm_fi 8 a = a := if_pos (by omega)
    rw [e, fj (by omega)]
    exact ⟨ha, show 0 < 64 by omega, Or.inl rfl⟩
  · intro i hi hb
    rw [sm_bm1 S (by omega) i hi, decide_eq_true_eq] at hb
    exact hb
  · intro s hs
    rw [sm_bm1 S (by omega) s (by omega)]
    exact ⟨by simp [hs], fun z => absurd rfl z⟩
end
end
section
section
/-! crash -/
theorem sm_crash_l {N S B T : Nat} {all up fr : Int32} {R C Lt Nu L : Nat → Nat} {du al de wh dt ag xh xl yu bx : Nat → Int32} {a : Nat} (hN : N ≤ 8) (hB6 : B ≤ 6) (ha : a < N) : ∀ (d m : Nat) (Bu : Nat → Nat) (nw : Nat → Int32), m + d = N → sm_B N B Bu nw → ∃ (Bu' : Nat → Nat) (nw' : Nat → Int32), sm_B N B Bu' nw' ∧ (∀ post, post 1 (nI N, nI S, nI B, nI T, all, up, fr, sm_vn R, sm_vn Bu', du, nw', al, de, sm_vn C, wh, dt, sm_vn Lt, ag, sm_vn Nu, xh, xl) → wX_crash_33 post (nI a) (d + 1) (nI m) (nI N) (nI S) (nI B) (nI T) all up fr (sm_vn R) (sm_vn Bu) du nw al de (sm_vn C) wh dt (sm_vn Lt) ag (sm_vn Nu) xh xl) ∧ ∀ post, post 1 (nI N, nI S, nI B, nI T, yu, sm_vn R, sm_vn Bu', sm_vn L, sm_vn Lt, ag, sm_vn Nu, bx) → wY_crash_35 post (nI a) (nI N) (nI S) (nI B) (nI T) (d + 1) (nI m) yu (sm_vn R) (sm_vn Bu) (sm_vn L) (sm_vn Lt) ag (sm_vn Nu) bx := by
  intro d
  induction d with
  | zero =>
    intro m Bu nw hm hB
    have hle : nI N ≤ nI m := nI_le (by omega) (by omega)
    exact ⟨Bu, nw, hB, fun post hp => br_t hle hp, fun post hp => br_t hle hp⟩
  | succ d ih =>
    intro m Bu nw hm hB
    have hnl : ¬ nI N ≤ nI m := nI_ge (by omega) (by omega)
    have hb := hB.1 (8 * a + m)
    obtain ⟨Bu', nw', g1, gX, gY⟩ := ih (m + 1) _ _ (by omega) (sm_sbB hB hN hB6 ha (m := m) (by omega) (v := 0) (by omega))
    refine ⟨Bu', nw', g1, fun post hp => br_f hnl ?_, fun post hp => br_f hnl ?_⟩
    · refine sm_xsb (v := 0) (by omega) (by omega) (by omega) (by omega) ?_
      exact nm_r (sm_p1 m) (gX post hp)
    · rw [sm_ix8]
      refine And.intro (sm_in (by omega) (by omega)) ?_
      rw [sm_cl (by omega), sm_vu0]
      exact nm_e (nm_r (sm_p1 m) (gY post hp))
/-! duplicate -/
def sm_cp (s f i : Nat) (bx : Nat → Int32) : Nat → Int32 := fun k => if 10 * f ≤ k ∧ k < 10 * f + i then bx (10 * s + (k - 10 * f)) else bx k
theorem sm_cp0 {s f : Nat} {bx : Nat → Int32} : sm_cp s f 0 bx = bx := by
  funext k
  exact if_neg (by omega)
theorem sm_cps {s f i : Nat} {bx : Nat → Int32} (h : ¬ s = f) (hi : i < 10) : upd (sm_cp s f i bx) (10 * f + i) (sm_cp s f i bx (10 * s + i)) = sm_cp s f (i + 1) bx := by
  have e0 : sm_cp s f i bx (10 * s + i) = bx (10 * s + i) := if_neg (by omega)
  rw [e0]
  funext k
  unfold upd sm_cp
  by_cases e : k = 10 * f + i
  · rw [if_pos e, if_pos (by omega), e, Nat.add_sub_cancel_left]
  · rw [if_neg e]
    by_cases e2 : 10 * f ≤ k ∧ k < 10 * f + i
    · rw [if_pos e2, if_pos (by omega)]
    · rw [if_neg e2, if_neg (by omega)]
theorem sm_dup_l {N S B T : Nat} {R Bu L Lt Nu : Nat → Nat} {yu ag : Nat → Int32} {bx : Nat → Int32} {post : Int32 → SY → Prop} {s f : Nat} (hs : s < 24) (hf : f < 24) (h : ¬ s = f) (hp : post (nI f) (nI N, nI S, nI B, nI T, yu, sm_vn R, sm_vn Bu, sm_vn L, sm_vn Lt, ag, sm_vn Nu, sm_cp s f 10 bx)) : ∀ d i, i + d = 10 → wY_duplicate_21 post (nI s) (nI f) (nI N) (nI S) (nI B) (nI T) (d + 1) (nI i) yu (sm_vn R) (sm_vn Bu) (sm_vn L) (sm_vn Lt) ag (sm_vn Nu) (sm_cp s f i bx) := by
  intro d
  induction d with
  | zero =>
    intro i hi
    have e : i = 10 := by omega
    subst e
    exact br_t (show nI 10 ≤ nI 10 by decide) hp
  | succ d ih =>
    intro i hi
    refine br_f (nI_ge (b := 10) (by omega) (by decide)) ?_
    rw [sm_m10, sm_m10, nI_add, nI_add]
    refine And.intro (sm_in (by omega) (by omega)) (And.intro (sm_in (by omega) (by omega)) ?_)
    rw [sm_cl (by omega), sm_cl (by omega), sm_cps h (by omega)]
    exact nm_e (nm_r (sm_p1 i) (ih (i + 1) (by omega)))
theorem sm_Mcp {N S s f : Nat} {fr fr' : Int32} {xh xl bx : Nat → Int32} (hM : sm_M N S fr xh xl bx) (hS : S ≤ 24) (hs : s < S) (hf : f < S) (ho : ¬ bx (10 * s) = 0) (hfr : ∀ i, i < 32 → bt fr' i = (bt fr i && !decide (i = f))) : sm_M N S fr' (upd xh f (xh s)) (upd xl f (xl s)) (sm_cp s f 10 bx) := by
  refine ⟨fun i hi hb => ?_, fun s' hs' => ?_⟩
  · rw [hfr i hi, Bool.and_eq_true] at hb
    exact hM.1 i hi hb.1
  · rw [hfr s' (by omega)]
    by_cases e : s' = f
    · subst e
      have ec : ∀ j, j < 10 → sm_cp s s' 10 bx (10 * s' + j) = bx (10 * s + j) := by
        intro j hj
        have : sm_cp s s' 10 bx (10 * s' + j) = bx (10 * s + (10 * s' + j - 10 * s')) := if_pos (by omega)
        rw [this, Nat.add_sub_cancel_left]
      have e0 := ec 0 (by omega)
      rw [Nat.add_zero, Nat.add_zero] at e0
      rw [pk_us, pk_us, e0, decide_eq_false ho]
      exact ⟨by simp, fun _ => sm_Wc ec ((hM.2 s hs).2 ho)⟩
    · have ec : ∀ j, j < 10 → sm_cp s f 10 bx (10 * s' + j) = bx (10 * s' + j) := fun j hj => if_neg (by omega)
      have e0 := ec 0 (by omega)
      rw [Nat.add_zero] at e0
      rw [pk_un e, pk_un e, e0, (hM.2 s' hs').1]
      exact ⟨by simp [e], fun z => sm_Wc ec ((hM.2 s' hs').2 z)⟩
/-! small answers -/
theorem sm_lft : ∀ c, c < 32 → ∀ l, l < 21 → (nI ((c + l) % 32) - nI c) &&& 31 = nI l := by decide +kernel
theorem sm_upb (x : Int32) {a : Nat} (ha : a < 32) : (x >>> (nI a &&& 31)) &&& 1 = sm_bi (bt x a) := by
  apply b_ext
  intro i hi
  rw [b_and, b_sshr a ha x hi, sm_bt1 i hi]
  by_cases e : i = 0
  · subst e
    rw [if_pos (by omega), Nat.add_zero]
    cases bt x a <;> decide
  · rw [decide_eq_false e, Bool.and_false]
    unfold sm_bi
    cases bt x a
    · exact (b_0 i).symm
    · exact ((sm_bt1 i hi).trans (decide_eq_false e)).symm
theorem sm_msgh {N kd fo to og su nu w : Nat} {b : Nat → Int32} (h : sm_H N kd fo to og su nu) (hN : N ≤ 8) (hw : sm_W6 kd fo to og su nu b) (hw5 : w < 5) : (nI (sm_eh kd fo to og su nu) >>> ((3 * nI w) &&& 31)) &&& 7 = b w := by
  obtain ⟨w0, w1, w2, w3, w4, w5⟩ := hw
  obtain ⟨h1, h2, h3, h4, h5, h6, h7⟩ := h
  have hb : sm_eh kd fo to og su nu < 2147483648 := by unfold sm_eh; omega
  have hc : w = 0 ∨ w = 1 ∨ w = 2 ∨ w = 3 ∨ w = 4 := by omega
  rcases hc with rfl | rfl | rfl | rfl | rfl
  · rw [pk_shrN (by omega) _ 0 (by decide), sm_m7 (by omega), w0]
    exact congrArg nI (by unfold sm_eh; omega)
  · rw [pk_shrN (by omega) _ 3 (by decide), sm_m7 (by omega), w1]
    exact congrArg nI (by unfold sm_eh; omega)
  · rw [pk_shrN (by omega) _ 6 (by decide), sm_m7 (by omega), w2]
    exact congrArg nI (by unfold sm_eh; omega)
  · rw [pk_shrN (by omega) _ 9 (by decide), sm_m7 (by omega), w3]
    exact congrArg nI (by unfold sm_eh; omega)
  · rw [pk_shrN (by omega) _ 12 (by decide), sm_m7 (by omega), w4]
    exact congrArg nI (by unfold sm_eh; omega)
/-! agreed -/
theorem sm_nf {b : Bool} (h : ¬ b = false) : b = true := by
  cases b
  · exact absurd rfl h
  · rfl
def sm_ag (N m : Nat) (up : Int32) (R : Nat → Nat) : Prop := ∀ a b, a < N → b < N → bt up a = true → bt up b = true → R (8 * a + m) = R (8 * b + m)
def sm_agi (m j : Nat) (up : Int32) (R : Nat → Nat) (x : Int32) : Prop := (x = -1 ∧ ∀ a, a < j → bt up a = false) ∨ ∃ c, c ≤ 29 ∧ x = nI c ∧ (∃ a, a < j ∧ bt up a = true ∧ R (8 * a + m) = c) ∧ ∀ a, a < j → bt up a = true → R (8 * a + m) = c
theorem sm_xag {N S B T : Nat} {all up fr : Int32} {R Bu C Lt Nu : Nat → Nat} {du nw al de wh dt ag xh xl : Nat → Int32} {post : Int32 → Prop} {m : Nat} (hN : N ≤ 8) (hm : m < N) (hR : ∀ k, R k ≤ 29) (h1 : sm_ag N m up R → post 1) (h0 : ¬ sm_ag N m up R → post 0) : ∀ d j x, j + d = N → sm_agi m j up R x → wX_agreed_14 post (nI m) (nI N) (nI S) (nI B) (nI T) all up fr (sm_vn R) (sm_vn Bu) du nw al de (sm_vn C) wh dt (sm_vn Lt) ag (sm_vn Nu) xh xl (d + 1) x (nI j) := by
  intro d
  induction d with
  | zero =>
    intro j x hj hI
    have e : j = N := by omega
    subst e
    refine br_t (nI_le (Nat.le_refl _) (by omega)) (h1 ?_)
    intro a b ha hb ua ub
    rcases hI with ⟨_, z⟩ | ⟨c, _, _, _, z⟩
    · rw [z a ha] at ua; exact absurd ua (by decide)
    · rw [z a ha ua, z b hb ub]
  | succ d ih =>
    intro j x hj hI
    have hRj := hR (8 * j + m)
    refine br_f (nI_ge (by omega) (by omega)) (sm_hB (by omega) (fun hb => nm_r (sm_p1 j) (ih (j + 1) x (by omega) ?_)) (fun hb => ?_))
    · rcases hI with ⟨z1, z2⟩ | ⟨c, z1, z2, ⟨a, z3, z4, z5⟩, z6⟩
      · refine Or.inl ⟨z1, fun a ha => ?_⟩
        by_cases e : a = j
        · rw [e]; exact hb
        · exact z2 a (by omega)
      · refine Or.inr ⟨c, z1, z2, ⟨a, by omega, z4, z5⟩, fun a ha ua => ?_⟩
        by_cases e : a = j
        · rw [e, hb] at ua; exact absurd ua (by decide)
        · exact z6 a (by omega) ua
    · rw [sm_ix8]
      refine And.intro (sm_in (by omega) (by omega)) ?_
      rw [sm_cl (by omega), sm_va]
      refine nm_e ?_
      rcases hI with ⟨z1, z2⟩ | ⟨c, z1, z2, ⟨a, z3, z4, z5⟩, z6⟩
      · refine br_t (by rw [z1]; decide) (nm_r (sm_p1 j) (ih (j + 1) _ (by omega) (Or.inr ⟨R (8 * j + m), hRj, rfl, ⟨j, by omega, hb, rfl⟩, fun a ha ua => ?_⟩)))
        by_cases e : a = j
        · rw [e]
        · rw [z2 a (by omega)] at ua; exact absurd ua (by decide)
      · subst z2
        refine br_f (nI_pos (by omega)) ?_
        by_cases e : R (8 * j + m) = c
        · refine br_t (by rw [e]) (nm_r (sm_p1 j) (ih (j + 1) _ (by omega) (Or.inr ⟨R (8 * j + m), hRj, rfl, ⟨j, by omega, hb, rfl⟩, fun a ha ua => ?_⟩)))
          by_cases e2 : a = j
          · rw [e2]
          · rw [e]; exact z6 a (by omega) ua
        · refine br_f (sm_ne (by omega) (by omega) e) (h0 (fun z => e ?_))
          rw [← z5]
          exact z j a (by omega) (by omega) hb z4
theorem sm_yag {N S B T : Nat} {R Bu Lt Nu L : Nat → Nat} {yu ag bx : Nat → Int32} {post : Int32 → Prop} {up : Int32} {m : Nat} (hN : N ≤ 8) (hm : m < N) (hR : ∀ k, R k ≤ 29) (hU : sm_U N up yu) (h1 : sm_ag N m up R → post 1) (h0 : ¬ sm_ag N m up R → post 0) : ∀ d a, a + d = N → (∀ a' b, a' < a → b < N → bt up a' = true → bt up b = true → R (8 * a' + m) = R (8 * b + m)) → wY_agreed_12 post (nI m) (nI N) (nI S) (nI B) (nI T) yu (sm_vn R) (sm_vn Bu) (sm_vn L) (sm_vn Lt) ag (sm_vn Nu) bx (d + 1) (nI a) := by
  intro d
  induction d with
  | zero =>
    intro a ha hI
    have e : a = N := by omega
    subst e
    exact br_t (nI_le (Nat.le_refl _) (by omega)) (h1 hI)
  | succ d ih =>
    intro a ha hI
    have haN : a < N := by omega
    have hRa := hR (8 * a + m)
    have hya := hU a haN
    have inner : ∀ e b, b + e = N → (∀ b', b' < b → bt up a = true → bt up b' = true → R (8 * a + m) = R (8 * b' + m)) → wY_agreed_22 post (wY_agreed_12 post (nI m) (nI N) (nI S) (nI B) (nI T) yu (sm_vn R) (sm_vn Bu) (sm_vn L) (sm_vn Lt) ag (sm_vn Nu) bx (d + 1)) (nI m) (nI a) (nI N) (nI S) (nI B) (nI T) yu (sm_vn R) (sm_vn Bu) (sm_vn L) (sm_vn Lt) ag (sm_vn Nu) bx (e + 1) (nI b) := by
      intro e
      induction e with
      | zero =>
        intro b hb hJ
        have eb : b = N := by omega
        subst eb
        refine br_t (nI_le (Nat.le_refl _) (by omega)) (nm_r (sm_p1 a) (ih (a + 1) (by omega) (fun a' b' ha' hb' ua ub => ?_)))
        by_cases e2 : a' = a
        · rw [e2] at ua ⊢; exact hJ b' hb' ua ub
        · exact hI a' b' (by omega) hb' ua ub
      | succ e ihe =>
        intro b hb hJ
        have hyb := hU b (by omega)
        have hRb := hR (8 * b + m)
        refine br_f (nI_ge (by omega) (by omega)) (And.intro (sm_in (by omega) (by omega)) ?_)
        rw [sm_cl (by omega), hya, sm_bi0]
        refine br_c (fun ua => nm_r (sm_p1 b) (ihe (b + 1) (by omega) (fun b' hb' ua' => ?_))) (fun ua => And.intro (sm_in (by omega) (by omega)) ?_)
        · rw [ua] at ua'; exact absurd ua' (by decide)
        · rw [sm_cl (k := b) (by omega), hyb, sm_bi0]
          refine br_c (fun ub => nm_r (sm_p1 b) (ihe (b + 1) (by omega) (fun b' hb' ua' ub' => ?_))) (fun ub => ?_)
          · by_cases e2 : b' = b
            · rw [e2, ub] at ub'; exact absurd ub' (by decide)
            · exact hJ b' (by omega) ua' ub'
          · rw [sm_ix8, sm_ix8]
            refine And.intro (sm_in (by omega) (by omega)) (And.intro (sm_in (by omega) (by omega)) ?_)
            rw [sm_cl (by omega), sm_cl (by omega), sm_va, sm_va]
            by_cases e2 : R (8 * a + m) = R (8 * b + m)
            · refine br_t (by rw [e2]) (nm_r (sm_p1 b) (ihe (b + 1) (by omega) (fun b' hb' ua' ub' => ?_)))
              by_cases e3 : b' = b
              · rw [e3]; exact e2
              · exact hJ b' (by omega) ua' ub'
            · refine br_f (sm_ne (by omega) (by omega) e2) (h0 (fun z => e2 ?_))
              exact z a b haN (by omega) (sm_nf ua) (sm_nf ub)
    exact br_f (nI_ge (by omega) (by omega)) ⟨N + 1, inner N 0 (by omega) (fun b' hb' => absurd hb' (by omega))⟩
end
end
section
/-- the relation: the same tables, and what ties the component's sets, wheel and words to the reference's tables -/
def i_Rel (_k : Nat) (u : SX) (v : SY) : Prop := ∃ (N S B T : Nat) (all up : Int32) (yu : Nat → Int32), sm_I N S B T all up yu u v
theorem i_up {k : Nat} {u : SX} {v : SY} (h : i_Rel k u v) : i_Rel (k + 3) u v := h
theorem sm_irI {k N S B T : Nat} {all up : Int32} {yu : Nat → Int32} {u : SX} {v : SY} (h : sm_I N S B T all up yu u v) : i_Rel k u v := ⟨N, S, B, T, all, up, yu, h⟩
theorem sm_irE {k : Nat} {P : SX → SY → Prop} {u : SX} {v : SY} (I : i_Rel k u v) (h : ∀ (N S B T : Nat) (all up fr : Int32) (R Bu C Lt Nu L : Nat → Nat) (du nw al de wh dt ag xh xl yu bx : Nat → Int32), sm_R N S B T all up fr R Bu C Lt Nu L du nw al de wh dt ag xh xl yu bx → P (nI N, nI S, nI B, nI T, all, up, fr, sm_vn R, sm_vn Bu, du, nw, al, de, sm_vn C, wh, dt, sm_vn Lt, ag, sm_vn Nu, xh, xl) (nI N, nI S, nI B, nI T, yu, sm_vn R, sm_vn Bu, sm_vn L, sm_vn Lt, ag, sm_vn Nu, bx)) : P u v := by
  obtain ⟨N, S, B, T, all, up, yu, I⟩ := I
  exact sm_Ie I (fun fr R Bu C Lt Nu L du nw al de wh dt ag xh xl bx hR => h N S B T all up fr R Bu C Lt Nu L du nw al de wh dt ag xh xl yu bx hR)
theorem i_vc0 (k0 : Int32) (k1 : Int32) (k2 : Int32) (k3 : Int32) : wpX_init (fun u => wpY_init (fun v => i_Rel 4 u v) k0 k1 k2 k3) k0 k1 k2 k3 := by
  obtain ⟨N, n1, n2, nX, nY⟩ := sm_clamp k0 2 8 (by omega) (by omega)
  obtain ⟨S, s1, s2, sX, sY⟩ := sm_clamp k1 8 24 (by omega) (by omega)
  obtain ⟨B, b1, b2, bX, bY⟩ := sm_clamp k2 1 6 (by omega) (by omega)
  obtain ⟨T, t1, t2, tX, tY⟩ := sm_clamp k3 2 20 (by omega) (by omega)
  refine nX _ _ (sX _ _ (bX _ _ (tX _ _ (nm_e (nm_e ⟨9, ?_⟩)))))
  have hx := sm_x202 (N := N) (S := S) (B := B) (T := T) (all := ((1 : Int32) <<< (nI N &&& 31)) - 1) (up := ((1 : Int32) <<< (nI N &&& 31)) - 1) (fr := ((1 : Int32) <<< (nI S &&& 31)) - 1) (R := fun _ => 0) (Bu := fun _ => 0) (C := fun _ => 0) (Nu := fun _ => 0) (de := fun _ => 0) (wh := fun _ => 0) (dt := fun _ => 0) (xh := fun _ => 0) (xl := fun _ => 0) (post := fun u => wpY_init (fun v => i_Rel 4 u v) k0 k1 k2 k3) ?_ 8 0 (by omega)
  · rw [sm_fj0, sm_fj0, sm_f80, sm_fi0] at hx
    exact hx
  · refine nY _ _ (sY _ _ (bY _ _ (tY _ _ ⟨9, ?_⟩)))
    have hy := sm_y122 (N := N) (S := S) (B := B) (T := T) (R := fun _ => 0) (Bu := fun _ => 0) (L := fun _ => 0) (Nu := fun _ => 0) (bx := fun _ => 0) (post := fun v => i_Rel 4 (nI N, nI S, nI B, nI T, ((1 : Int32) <<< (nI N &&& 31)) - 1, ((1 : Int32) <<< (nI N &&& 31)) - 1, ((1 : Int32) <<< (nI S &&& 31)) - 1, sm_vn (fun _ => 0), sm_vn (fun _ => 0), sm_fj 64 (-1), sm_f8 8 (((1 : Int32) <<< (nI N &&& 31)) - 1), sm_fj 8 (((1 : Int32) <<< (nI N &&& 31)) - 1), fun _ => 0, sm_vn (fun _ => 0), fun _ => 0, fun _ => 0, sm_vn (sm_fi 8), sm_fj 8 (-1), sm_vn (fun _ => 0), fun _ => 0, fun _ => 0) v) (sm_irI (sm_Ii (sm_R0 ⟨n1, n2, s1, s2, b1, b2, t1, t2⟩))) 8 0 (by omega)
    rw [sm_fj0, sm_fj0, sm_fi0] at hy
    exact hy
end
section
theorem i_vc_tick {k : Nat} {u : SX} {v : SY} (I : i_Rel k u v) (hk : k + 3 ≤ 1540) (v1 : Int32) (v2 : Int32) : wpX_tick (fun r u' => wpY_tick (fun r' v' => r' = r ∧ i_Rel (k + 3) u' v') v v1 v2) u v1 v2 := by
  refine sm_irE (P := fun u v => wpX_tick (fun r u' => wpY_tick (fun r' v' => r' = r ∧ i_Rel (k + 3) u' v') v v1 v2) u v1 v2) I ?_
  intro N S B T all up fr R Bu C Lt Nu L du nw al de wh dt ag xh xl yu bx h
  have hR := h
  obtain ⟨hC, hA, hU, hV, hB, hX, hCK, hK, hP, hM⟩ := h
  have hC' := hC
  obtain ⟨c1, c2, c3, c4, c5, c6, c7, c8⟩ := hC'
  unfold wpX_tick
  rcases sm_ix v1 (n := N) (by omega) with hn | ⟨a, ha, rfl⟩
  · refine sm_upN hn ?_
    unfold wpY_tick
    exact sm_ynF hn ⟨rfl, sm_irI (sm_Ii hR)⟩
  · have va : vp_in (nI a) 8 := sm_in (by omega) (by omega)
    have hyu := hU a ha
    cases hb : bt up a with
    | false =>
      refine sm_upF c2 ha hb ?_
      unfold wpY_tick
      refine sm_ynT c2 ha (br_c (fun _ => ⟨rfl, sm_irI (sm_Ii hR)⟩) (fun _ => br_c (fun _ => ⟨rfl, sm_irI (sm_Ii hR)⟩) (fun _ => And.intro va (br_t ?_ ⟨rfl, sm_irI (sm_Ii hR)⟩))))
      rw [sm_cl (by omega), hyu, hb]
      rfl
    | true =>
      refine sm_upT c2 ha hb ?_
      have hu0 : ¬ yu (nI a).toNatClampNeg = 0 := by
        rw [sm_cl (by omega), hyu, hb]
        decide
      refine br_c (fun h1 => ?_) (fun h1 => br_c (fun h2 => ?_) (fun h2 => ?_))
      · unfold wpY_tick
        exact sm_ynT c2 ha (br_t h1 ⟨rfl, sm_irI (sm_Ii hR)⟩)
      · obtain ⟨cnt, hcnt, rfl⟩ := nI_of2 (n := 32) (x := v2) (M := 32) (by decide) (fun z => h1 (Int32.lt_trans z (by decide))) h2
        obtain ⟨r, u', v', I', fX, fY⟩ := sm_tick_l ha hcnt cnt cnt 0 0 0 fr R Bu C Lt Nu L du nw al de wh dt ag xh xl bx (Nat.le_refl _) (by omega) (by omega) hR
        refine ⟨cnt + 1, fX _ ?_ (cnt + 1) (by omega)⟩
        unfold wpY_tick
        refine sm_ynT c2 ha (br_f h1 (br_f ?_ (And.intro va (br_f hu0 ⟨cnt + 1, fY _ ⟨rfl, sm_irI I'⟩ (cnt + 1) (by omega)⟩))))
        exact Int32.not_lt.mpr h2
      · unfold wpY_tick
        exact sm_ynT c2 ha (br_f h1 (br_t (Int32.not_le.mp h2) ⟨rfl, sm_irI (sm_Ii hR)⟩))
theorem i_vc_tickAll {k : Nat} {u : SX} {v : SY} (I : i_Rel k u v) (hk : k + 3 ≤ 1540) (v1 : Int32) : wpX_tickAll (fun r u' => wpY_tickAll (fun r' v' => r' = r ∧ i_Rel (k + 3) u' v') v v1) u v1 := by
  refine sm_irE (P := fun u v => wpX_tickAll (fun r u' => wpY_tickAll (fun r' v' => r' = r ∧ i_Rel (k + 3) u' v') v v1) u v1) I ?_
  intro N S B T all up fr R Bu C Lt Nu L du nw al de wh dt ag xh xl yu bx h
  have hR := h
  obtain ⟨hC, hA, hU, hV, hB, hX, hCK, hK, hP, hM⟩ := h
  have hC' := hC
  obtain ⟨c1, c2, c3, c4, c5, c6, c7, c8⟩ := hC'
  refine br_c (fun h1 => br_t h1 ⟨rfl, sm_irI (sm_Ii hR)⟩) (fun h1 => br_c (fun h2 => ?_) (fun h2 => br_f h1 (br_f h2 ⟨rfl, sm_irI (sm_Ii hR)⟩)))
  obtain ⟨cnt, hcnt, rfl⟩ := nI_of2 (n := 8) (x := v1) (M := 8) (by decide) (fun z => h1 (Int32.lt_trans z (by decide))) h2
  obtain ⟨r, u', v', I', fX, fY⟩ := sm_ta hcnt cnt 0 0 fr R Bu C Lt Nu L du nw al de wh dt ag xh xl bx (by omega) hR
  exact ⟨cnt + 1, fX _ (br_f h1 (br_t h2 ⟨cnt + 1, fY _ ⟨rfl, sm_irI I'⟩ (cnt + 1) (by omega)⟩)) (cnt + 1) (by omega)⟩
theorem i_vc_deliver {k : Nat} {u : SX} {v : SY} (I : i_Rel k u v) (hk : k + 3 ≤ 1540) (v1 : Int32) : wpX_deliver (fun r u' => wpY_deliver (fun r' v' => r' = r ∧ i_Rel (k + 3) u' v') v v1) u v1 := by
  refine sm_irE (P := fun u v => wpX_deliver (fun r u' => wpY_deliver (fun r' v' => r' = r ∧ i_Rel (k + 3) u' v') v v1) u v1) I ?_
  intro N S B T all up fr R Bu C Lt Nu L du nw al de wh dt ag xh xl yu bx h
  have hR := h
  obtain ⟨hC, hA, hU, hV, hB, hX, hCK, hK, hP, hM⟩ := h
  have hC' := hC
  obtain ⟨c1, c2, c3, c4, c5, c6, c7, c8⟩ := hC'
  unfold wpX_deliver
  rcases sm_ix v1 (n := S) (by omega) with hn | ⟨s, hs, rfl⟩
  · refine sm_ocN hn ?_
    unfold wpY_deliver
    exact sm_yoN hn ⟨rfl, sm_irI (sm_Ii hR)⟩
  · have hfr := (hM.2 s hs).1
    by_cases ho : bx (10 * s) = 0
    · rw [decide_eq_true ho] at hfr
      refine sm_ocF c4 hs hfr ?_
      unfold wpY_deliver
      exact sm_yoF c4 hs ho ⟨rfl, sm_irI (sm_Ii hR)⟩
    · rw [decide_eq_false ho] at hfr
      obtain ⟨r, u', v', I', fX, fY⟩ := sm_handle hR hs ho
      refine sm_ocT c4 hs hfr (fX _ ?_)
      unfold wpY_deliver
      refine sm_yoT c4 hs ho (fY _ ?_)
      exact ⟨rfl, sm_irI I'⟩
theorem i_vc_sweep {k : Nat} {u : SX} {v : SY} (I : i_Rel k u v) (hk : k + 3 ≤ 1540) : wpX_sweep (fun r u' => wpY_sweep (fun r' v' => r' = r ∧ i_Rel (k + 3) u' v') v) u := by
  refine sm_irE (P := fun u v => wpX_sweep (fun r u' => wpY_sweep (fun r' v' => r' = r ∧ i_Rel (k + 3) u' v') v) u) I ?_
  intro N S B T all up fr R Bu C Lt Nu L du nw al de wh dt ag xh xl yu bx h
  have hR := h
  obtain ⟨hC, hA, hU, hV, hB, hX, hCK, hK, hP, hM⟩ := h
  have hC' := hC
  obtain ⟨c1, c2, c3, c4, c5, c6, c7, c8⟩ := hC'
  obtain ⟨r, u', v', I', fX, fY⟩ := sm_sweep_l S 0 0 fr R Bu C Lt Nu L du nw al de wh dt ag xh xl bx (by omega) hR
  exact ⟨S + 1, fX _ ⟨S + 1, fY _ ⟨rfl, sm_irI I'⟩⟩⟩
theorem i_vc_drop {k : Nat} {u : SX} {v : SY} (I : i_Rel k u v) (hk : k + 3 ≤ 1540) (v1 : Int32) : wpX_drop (fun r u' => wpY_drop (fun r' v' => r' = r ∧ i_Rel (k + 3) u' v') v v1) u v1 := by
  refine sm_irE (P := fun u v => wpX_drop (fun r u' => wpY_drop (fun r' v' => r' = r ∧ i_Rel (k + 3) u' v') v v1) u v1) I ?_
  intro N S B T all up fr R Bu C Lt Nu L du nw al de wh dt ag xh xl yu bx h
  have hR := h
  obtain ⟨hC, hA, hU, hV, hB, hX, hCK, hK, hP, hM⟩ := h
  have hC' := hC
  obtain ⟨c1, c2, c3, c4, c5, c6, c7, c8⟩ := hC'
  unfold wpX_drop
  rcases sm_ix v1 (n := S) (by omega) with hn | ⟨s, hs, rfl⟩
  · refine sm_ocN hn ?_
    unfold wpY_drop
    exact sm_yoN hn ⟨rfl, sm_irI (sm_Ii hR)⟩
  · have hfr := (hM.2 s hs).1
    by_cases ho : bx (10 * s) = 0
    · rw [decide_eq_true ho] at hfr
      refine sm_ocF c4 hs hfr ?_
      unfold wpY_drop
      exact sm_yoF c4 hs ho ⟨rfl, sm_irI (sm_Ii hR)⟩
    · rw [decide_eq_false ho] at hfr
      refine sm_ocT c4 hs hfr (nm_e ?_)
      unfold wpY_drop
      refine sm_yoT c4 hs ho ?_
      rw [sm_m10]
      refine And.intro (sm_in (by omega) (by omega)) ?_
      rw [sm_cl (by omega)]
      exact nm_e ⟨rfl, sm_irI (sm_Ii ⟨hC, hA, hU, hV, hB, hX, hCK, hK, hP, sm_Mfree hM hs c4⟩)⟩
theorem i_vc_duplicate {k : Nat} {u : SX} {v : SY} (I : i_Rel k u v) (hk : k + 3 ≤ 1540) (v1 : Int32) : wpX_duplicate (fun r u' => wpY_duplicate (fun r' v' => r' = r ∧ i_Rel (k + 3) u' v') v v1) u v1 := by
  refine sm_irE (P := fun u v => wpX_duplicate (fun r u' => wpY_duplicate (fun r' v' => r' = r ∧ i_Rel (k + 3) u' v') v v1) u v1) I ?_
  intro N S B T all up fr R Bu C Lt Nu L du nw al de wh dt ag xh xl yu bx h
  have hR := h
  obtain ⟨hC, hA, hU, hV, hB, hX, hCK, hK, hP, hM⟩ := h
  have hC' := hC
  obtain ⟨c1, c2, c3, c4, c5, c6, c7, c8⟩ := hC'
  -- the reference's free slot first
  have hyf : ∀ (s : Nat) (post : Int32 → Prop), (fr = 0 → post (-1)) → (∀ f, f < 32 → bt fr f = true → (∀ j, j < f → bt fr j = false) → post (nI f)) → wpY_freeSlot post (nI N, nI S, nI B, nI T, yu, sm_vn R, sm_vn Bu, sm_vn L, sm_vn Lt, ag, sm_vn Nu, bx) := by
    intro s post p0 p1
    by_cases hz : fr = 0
    · exact sm_yfs0 c4 (sm_frz hM c4 hz) (p0 hz)
    · obtain ⟨f, f1, f2, f3, _⟩ := sm_low hz
      obtain ⟨g1, g2, g3⟩ := sm_frn hM c4 f1 f2 f3
      exact sm_yfs c4 g1 g2 g3 (p1 f f1 f2 f3)
  unfold wpX_duplicate
  rcases sm_ix v1 (n := S) (by omega) with hn | ⟨s, hs, rfl⟩
  · refine sm_ocN hn ?_
    unfold wpY_duplicate
    exact hyf 0 _ (fun _ => sm_yoN hn ⟨rfl, sm_irI (sm_Ii hR)⟩) (fun _ _ _ _ => sm_yoN hn ⟨rfl, sm_irI (sm_Ii hR)⟩)
  · have hfr := (hM.2 s hs).1
    by_cases ho : bx (10 * s) = 0
    · rw [decide_eq_true ho] at hfr
      refine sm_ocF c4 hs hfr ?_
      unfold wpY_duplicate
      exact hyf 0 _ (fun _ => sm_yoF c4 hs ho ⟨rfl, sm_irI (sm_Ii hR)⟩) (fun _ _ _ _ => sm_yoF c4 hs ho ⟨rfl, sm_irI (sm_Ii hR)⟩)
    · rw [decide_eq_false ho] at hfr
      refine sm_ocT c4 hs hfr ?_
      by_cases hz : fr = 0
      · refine br_t hz ?_
        unfold wpY_duplicate
        exact sm_yfs0 c4 (sm_frz hM c4 hz) (sm_yoT c4 hs ho (br_f (by decide) ⟨rfl, sm_irI (sm_Ii hR)⟩))
      · obtain ⟨f, f1, f2, f3, hlow⟩ := sm_low hz
        obtain ⟨g1, g2, g3⟩ := sm_frn hM c4 f1 f2 f3
        have hsf : ¬ s = f := fun z => by rw [z, f2] at hfr; exact absurd hfr (by decide)
        have vs : vp_in (nI s) 24 := sm_in (by omega) (by omega)
        have vf : vp_in (nI f) 24 := sm_in (by omega) (by omega)
        refine br_f hz (hlow _ _ (nm_e (And.intro vs (And.intro vf ?_))))
        rw [sm_cl (by omega), sm_cl (by omega)]
        refine nm_e (And.intro vs (And.intro vf (nm_e ?_)))
        unfold wpY_duplicate
        refine sm_yfs c4 g1 g2 g3 (sm_yoT c4 hs ho (br_t (nI_pos' (by omega)) ⟨11, ?_⟩))
        have hd := sm_dup_l (N := N) (S := S) (B := B) (T := T) (yu := yu) (R := R) (Bu := Bu) (L := L) (Lt := Lt) (ag := ag) (Nu := Nu) (bx := bx) (s := s) (f := f) (post := fun r' v' => r' = nI f ∧ i_Rel (k + 3) (nI N, nI S, nI B, nI T, all, up, fr &&& (fr - 1), sm_vn R, sm_vn Bu, du, nw, al, de, sm_vn C, wh, dt, sm_vn Lt, ag, sm_vn Nu, upd xh f (xh s), upd xl f (xl s)) v') (by omega) (by omega) hsf ⟨rfl, sm_irI (sm_Ii ⟨hC, hA, hU, hV, hB, hX, hCK, hK, hP, sm_Mcp hM c4 hs g1 ho (fun i hi => sm_clow f1 f2 f3 hi)⟩)⟩ 10 0 (by omega)
        rw [sm_cp0] at hd
        exact hd
theorem i_vc_accuse {k : Nat} {u : SX} {v : SY} (I : i_Rel k u v) (hk : k + 3 ≤ 1540) (v1 : Int32) (v2 : Int32) : wpX_accuse (fun r u' => wpY_accuse (fun r' v' => r' = r ∧ i_Rel (k + 3) u' v') v v1 v2) u v1 v2 := by
  refine sm_irE (P := fun u v => wpX_accuse (fun r u' => wpY_accuse (fun r' v' => r' = r ∧ i_Rel (k + 3) u' v') v v1 v2) u v1 v2) I ?_
  intro N S B T all up fr R Bu C Lt Nu L du nw al de wh dt ag xh xl yu bx h
  have hR := h
  obtain ⟨hC, hA, hU, hV, hB, hX, hCK, hK, hP, hM⟩ := h
  have hC' := hC
  obtain ⟨c1, c2, c3, c4, c5, c6, c7, c8⟩ := hC'
  unfold wpX_accuse
  rcases sm_ix v1 (n := N) (by omega) with hn | ⟨a, ha, rfl⟩
  · refine sm_upN hn ?_
    unfold wpY_accuse
    exact sm_ynF hn ⟨rfl, sm_irI (sm_Ii hR)⟩
  · have va : vp_in (nI a) 8 := sm_in (by omega) (by omega)
    have hyu := hU a ha
    rcases sm_ix v2 (n := N) (by omega) with hn2 | ⟨m, hm, rfl⟩
    · have hy : wpY_accuse (fun r' v' => r' = -1 ∧ i_Rel (k + 3) (nI N, nI S, nI B, nI T, all, up, fr, sm_vn R, sm_vn Bu, du, nw, al, de, sm_vn C, wh, dt, sm_vn Lt, ag, sm_vn Nu, xh, xl) v') (nI N, nI S, nI B, nI T, yu, sm_vn R, sm_vn Bu, sm_vn L, sm_vn Lt, ag, sm_vn Nu, bx) (nI a) v2 := by
        unfold wpY_accuse
        exact sm_ynT c2 ha (sm_ynF hn2 ⟨rfl, sm_irI (sm_Ii hR)⟩)
      cases hb : bt up a with
      | false => exact sm_upF c2 ha hb hy
      | true => exact sm_upT c2 ha hb (sm_ndF hn2 hy)
    · have hRm := hV.1 (8 * a + m)
      have ev : vp_in (nI (8 * a + m)) 64 := sm_in (by omega) (by omega)
      by_cases em : m = a
      · have hy : wpY_accuse (fun r' v' => r' = -1 ∧ i_Rel (k + 3) (nI N, nI S, nI B, nI T, all, up, fr, sm_vn R, sm_vn Bu, du, nw, al, de, sm_vn C, wh, dt, sm_vn Lt, ag, sm_vn Nu, xh, xl) v') (nI N, nI S, nI B, nI T, yu, sm_vn R, sm_vn Bu, sm_vn L, sm_vn Lt, ag, sm_vn Nu, bx) (nI a) (nI m) := by
          unfold wpY_accuse
          exact sm_ynT c2 ha (sm_ynT c2 hm (br_t (by rw [em]) ⟨rfl, sm_irI (sm_Ii hR)⟩))
        cases hb : bt up a with
        | false => exact sm_upF c2 ha hb hy
        | true => exact sm_upT c2 ha hb (sm_ndT c2 hm (br_t (by rw [em]) hy))
      · have hne : ¬ nI m = nI a := sm_ne (by omega) (by omega) em
        cases hb : bt up a with
        | false =>
          refine sm_upF c2 ha hb ?_
          unfold wpY_accuse
          refine sm_ynT c2 ha (sm_ynT c2 hm (br_f hne (And.intro va (br_t ?_ ⟨rfl, sm_irI (sm_Ii hR)⟩))))
          rw [sm_cl (by omega), hyu, hb]
          rfl
        | true =>
          have hu0 : ¬ yu (nI a).toNatClampNeg = 0 := by
            rw [sm_cl (by omega), hyu, hb]
            decide
          have hbit := (hV.2 a ha m (by omega)).1
          refine sm_upT c2 ha hb (sm_ndT c2 hm (br_f hne (And.intro va ?_)))
          rw [sm_cl (by omega)]
          by_cases e0 : R (8 * a + m) % 3 = 0
          · obtain ⟨al', de', nw', wh', dt', hV', hB', hX', hWX⟩ := sm_xraise (C := C) hV hB hX (sm_K1D (hK a ha m hm)) c2 c6 c8 (hCK a ha) ha hm (r := R (8 * a + m) + 1) (by omega)
            refine sm_hT (by omega) (by rw [hbit, decide_eq_true ⟨hm, e0⟩]) ?_
            rw [sm_ix8]
            refine And.intro ev ?_
            rw [sm_cl (by omega), sm_va, sm_p1 (R (8 * a + m))]
            refine hWX ?_
            unfold wpY_accuse
            refine sm_ynT c2 ha (sm_ynT c2 hm (br_f hne (And.intro va (br_f hu0 ?_))))
            rw [sm_ix8]
            refine And.intro ev (And.intro sm_n3 ?_)
            rw [sm_cl (by omega), sm_va, sm_r3 (by omega), e0]
            refine br_t rfl (And.intro ev ?_)
            rw [sm_p1 (R (8 * a + m))]
            refine sm_yraise (by omega) (by omega) (by omega) ?_
            exact ⟨rfl, sm_irI (sm_Ii ⟨hC, hA, hU, hV', hB', hX', hCK, sm_Ku hK c2 hm (sm_nK c7), hP, hM⟩)⟩
          · refine sm_hF (by omega) (by rw [hbit, decide_eq_false (fun z => e0 z.2)]) ?_
            unfold wpY_accuse
            refine sm_ynT c2 ha (sm_ynT c2 hm (br_f hne (And.intro va (br_f hu0 ?_))))
            rw [sm_ix8]
            refine And.intro ev (And.intro sm_n3 ?_)
            rw [sm_cl (by omega), sm_va, sm_r3 (by omega)]
            exact br_f (sm_ne (b := 0) (by omega) (by omega) e0) ⟨rfl, sm_irI (sm_Ii hR)⟩
theorem i_vc_crash {k : Nat} {u : SX} {v : SY} (I : i_Rel k u v) (hk : k + 3 ≤ 1540) (v1 : Int32) : wpX_crash (fun r u' => wpY_crash (fun r' v' => r' = r ∧ i_Rel (k + 3) u' v') v v1) u v1 := by
  refine sm_irE (P := fun u v => wpX_crash (fun r u' => wpY_crash (fun r' v' => r' = r ∧ i_Rel (k + 3) u' v') v v1) u v1) I ?_
  intro N S B T all up fr R Bu C Lt Nu L du nw al de wh dt ag xh xl yu bx h
  have hR := h
  obtain ⟨hC, hA, hU, hV, hB, hX, hCK, hK, hP, hM⟩ := h
  have hC' := hC
  obtain ⟨c1, c2, c3, c4, c5, c6, c7, c8⟩ := hC'
  unfold wpX_crash
  rcases sm_ix v1 (n := N) (by omega) with hn | ⟨a, ha, rfl⟩
  · refine sm_upN hn ?_
    unfold wpY_crash
    exact sm_ynF hn ⟨rfl, sm_irI (sm_Ii hR)⟩
  · have va : vp_in (nI a) 8 := sm_in (by omega) (by omega)
    have hyu := hU a ha
    cases hb : bt up a with
    | false =>
      refine sm_upF c2 ha hb ?_
      unfold wpY_crash
      refine sm_ynT c2 ha (And.intro va (br_t ?_ ⟨rfl, sm_irI (sm_Ii hR)⟩))
      rw [sm_cl (by omega), hyu, hb]
      rfl
    | true =>
      have hu0 : ¬ yu (nI a).toNatClampNeg = 0 := by
        rw [sm_cl (by omega), hyu, hb]
        decide
      have hU' : sm_U N (sm_cb up a) (upd yu a 0) := by
        intro a' ha'
        rw [sm_cbb up (by omega) (by omega)]
        by_cases e : a' = a
        · subst e
          rw [pk_us]
          simp [sm_bi]
        · rw [pk_un e, hU a' ha', decide_eq_false e]
          simp
      have hP' : sm_P N Lt Nu (upd ag a (-1)) := by
        intro a' ha'
        by_cases e : a' = a
        · subst e
          rw [pk_us]
          exact ⟨(hP a' ha').1, (hP a' ha').2.1, Or.inl rfl⟩
        · rw [pk_un e]
          exact hP a' ha'
      obtain ⟨Bu', nw', g1, gX, gY⟩ := sm_crash_l (S := S) (T := T) (all := all) (up := sm_cb up a) (fr := fr) (R := R) (C := C) (Lt := Lt) (Nu := Nu) (L := L) (du := du) (al := al) (de := de) (wh := wh) (dt := dt) (ag := upd ag a (-1)) (xh := xh) (xl := xl) (yu := upd yu a 0) (bx := bx) c2 c6 ha N 0 Bu nw (by omega) hB
      refine sm_upT c2 ha hb (nm_e (And.intro va ?_))
      rw [sm_cl (by omega)]
      refine nm_e ⟨N + 1, gX _ ?_⟩
      unfold wpY_crash
      refine sm_ynT c2 ha (And.intro va (br_f hu0 (And.intro va ?_)))
      rw [sm_cl (by omega), sm_vb0]
      exact nm_e (And.intro va (nm_e ⟨N + 1, gY _ ⟨rfl, sm_irI (sm_Ii ⟨hC, hA, hU', hV, g1, hX, hCK, hK, hP', hM⟩)⟩⟩))
theorem i_vc_restart {k : Nat} {u : SX} {v : SY} (I : i_Rel k u v) (hk : k + 3 ≤ 1540) (v1 : Int32) : wpX_restart (fun r u' => wpY_restart (fun r' v' => r' = r ∧ i_Rel (k + 3) u' v') v v1) u v1 := by
  refine sm_irE (P := fun u v => wpX_restart (fun r u' => wpY_restart (fun r' v' => r' = r ∧ i_Rel (k + 3) u' v') v v1) u v1) I ?_
  intro N S B T all up fr R Bu C Lt Nu L du nw al de wh dt ag xh xl yu bx h
  have hR := h
  obtain ⟨hC, hA, hU, hV, hB, hX, hCK, hK, hP, hM⟩ := h
  have hC' := hC
  obtain ⟨c1, c2, c3, c4, c5, c6, c7, c8⟩ := hC'
  unfold wpX_restart
  rcases sm_ix v1 (n := N) (by omega) with hn | ⟨a, ha, rfl⟩
  · refine sm_ndF hn ?_
    unfold wpY_restart
    exact sm_ynF hn ⟨rfl, sm_irI (sm_Ii hR)⟩
  · have va : vp_in (nI a) 8 := sm_in (by omega) (by omega)
    have v9 : vp_in (nI (9 * a)) 64 := sm_in (by omega) (by omega)
    have hyu := hU a ha
    have hRa := hV.1 (9 * a)
    have e9 : 8 * a + a = 9 * a := by omega
    refine sm_ndT c2 ha ?_
    cases hb : bt up a with
    | true =>
      refine sm_hT (by omega) hb ?_
      unfold wpY_restart
      refine sm_ynT c2 ha (And.intro va (br_f ?_ ⟨rfl, sm_irI (sm_Ii hR)⟩))
      rw [sm_cl (by omega), hyu, hb]
      decide
    | false =>
      have hu0 : yu (nI a).toNatClampNeg = 0 := by
        rw [sm_cl (by omega), hyu, hb]
        rfl
      refine sm_hF (by omega) hb ?_
      rw [sm_m9]
      refine And.intro v9 (And.intro sm_n3 ?_)
      rw [sm_cl (by omega), sm_va, sm_d3 (by omega)]
      by_cases e : R (9 * a) / 3 < 9
      · have hw : 3 * (R (9 * a) / 3 + 1) ≤ 29 := by omega
        have hU' : sm_U N (sm_ob up a) (upd yu a 1) := by
          intro a' ha'
          rw [sm_obb up (by omega) (by omega)]
          by_cases e : a' = a
          · subst e
            rw [pk_us]
            simp [sm_bi]
          · rw [pk_un e, hU a' ha', decide_eq_false e]
            simp
        obtain ⟨al', de', nw', wh', dt', hV', hB', hX', hWX⟩ := sm_xraise (C := C) hV hB hX (sm_K1D (hK a ha a ha)) c2 c6 c8 (hCK a ha) ha ha hw
        refine nm_e (br_t (nI_lt (b := 9) e (by decide)) (nm_e ?_))
        rw [sm_p1 (R (9 * a) / 3), sm_m3]
        refine hWX ?_
        unfold wpY_restart
        refine sm_ynT c2 ha (And.intro va (br_t hu0 ?_))
        rw [sm_m9]
        refine And.intro v9 (And.intro sm_n3 ?_)
        rw [sm_cl (k := 9 * a) (by omega), sm_va, sm_d3 (by omega)]
        refine br_f (sm_ne (b := 9) (by omega) (by omega) (by omega)) (And.intro va ?_)
        rw [sm_cl (by omega), sm_vb1, sm_p1 (R (9 * a) / 3), sm_m3]
        refine nm_e (And.intro v9 (And.intro sm_n3 ?_))
        refine sm_yraise (by omega) (by omega) hw ?_
        refine And.intro v9 (And.intro sm_n3 ⟨?_, sm_irI (sm_Ii ⟨hC, hA, hU', hV', hB', hX', hCK, sm_Ku hK c2 ha (sm_nK c7), hP, hM⟩)⟩)
        rw [sm_va, e9, sm_us, sm_d3 (by omega)]
        exact congrArg nI (by omega)
      · refine nm_e (br_f (nI_nlt (b := 9) (by omega) (by omega)) ?_)
        unfold wpY_restart
        refine sm_ynT c2 ha (And.intro va (br_t hu0 ?_))
        rw [sm_m9]
        refine And.intro v9 (And.intro sm_n3 ?_)
        rw [sm_cl (k := 9 * a) (by omega), sm_va, sm_d3 (by omega)]
        exact br_t (show nI (R (9 * a) / 3) = nI 9 by rw [show R (9 * a) / 3 = 9 by omega]) ⟨rfl, sm_irI (sm_Ii hR)⟩
theorem i_vc_rank {k : Nat} {u : SX} {v : SY} (I : i_Rel k u v) (hk : k + 3 ≤ 1540) (v1 : Int32) (v2 : Int32) : wpX_rank (fun r => wpY_rank (fun r' => r' = r ∧ i_Rel (k + 3) u v) v v1 v2) u v1 v2 := by
  refine sm_irE (P := fun u v => wpX_rank (fun r => wpY_rank (fun r' => r' = r ∧ i_Rel (k + 3) u v) v v1 v2) u v1 v2) I ?_
  intro N S B T all up fr R Bu C Lt Nu L du nw al de wh dt ag xh xl yu bx h
  have hR := h
  obtain ⟨hC, hA, hU, hV, hB, hX, hCK, hK, hP, hM⟩ := h
  have hC' := hC
  obtain ⟨c1, c2, c3, c4, c5, c6, c7, c8⟩ := hC'
  unfold wpX_rank
  rcases sm_ix v1 (n := N) (by omega) with hn | ⟨a, ha, rfl⟩
  · refine sm_ndF hn ?_
    unfold wpY_rank
    exact sm_ynF hn ⟨rfl, sm_irI (sm_Ii hR)⟩
  · refine sm_ndT c2 ha ?_
    rcases sm_ix v2 (n := N) (by omega) with hn2 | ⟨m, hm, rfl⟩
    · refine sm_ndF hn2 ?_
      unfold wpY_rank
      exact sm_ynT c2 ha (sm_ynF hn2 ⟨rfl, sm_irI (sm_Ii hR)⟩)
    · have ev : vp_in (nI (8 * a + m)) 64 := sm_in (by omega) (by omega)
      refine sm_ndT c2 hm ?_
      rw [sm_ix8]
      refine And.intro ev ?_
      unfold wpY_rank
      refine sm_ynT c2 ha (sm_ynT c2 hm ?_)
      rw [sm_ix8]
      exact And.intro ev ⟨rfl, sm_irI (sm_Ii hR)⟩
theorem i_vc_left {k : Nat} {u : SX} {v : SY} (I : i_Rel k u v) (hk : k + 3 ≤ 1540) (v1 : Int32) (v2 : Int32) : wpX_left (fun r => wpY_left (fun r' => r' = r ∧ i_Rel (k + 3) u v) v v1 v2) u v1 v2 := by
  refine sm_irE (P := fun u v => wpX_left (fun r => wpY_left (fun r' => r' = r ∧ i_Rel (k + 3) u v) v v1 v2) u v1 v2) I ?_
  intro N S B T all up fr R Bu C Lt Nu L du nw al de wh dt ag xh xl yu bx h
  have hR := h
  obtain ⟨hC, hA, hU, hV, hB, hX, hCK, hK, hP, hM⟩ := h
  have hC' := hC
  obtain ⟨c1, c2, c3, c4, c5, c6, c7, c8⟩ := hC'
  unfold wpX_left
  rcases sm_ix v1 (n := N) (by omega) with hn | ⟨a, ha, rfl⟩
  · refine sm_ndF hn ?_
    unfold wpY_left
    exact sm_ynF hn ⟨rfl, sm_irI (sm_Ii hR)⟩
  · refine sm_ndT c2 ha ?_
    rcases sm_ix v2 (n := N) (by omega) with hn2 | ⟨m, hm, rfl⟩
    · refine sm_ndF hn2 ?_
      unfold wpY_left
      exact sm_ynT c2 ha (sm_ynF hn2 ⟨rfl, sm_irI (sm_Ii hR)⟩)
    · have ev : vp_in (nI (8 * a + m)) 64 := sm_in (by omega) (by omega)
      refine sm_ndT c2 hm ?_
      rw [sm_ix8]
      refine And.intro ev ?_
      rw [sm_cl (by omega)]
      have hca := hCK a ha
      have hy : ∀ r : Int32, nI (L (8 * a + m)) = r → wpY_left (fun r' => r' = r ∧ i_Rel (k + 3) (nI N, nI S, nI B, nI T, all, up, fr, sm_vn R, sm_vn Bu, du, nw, al, de, sm_vn C, wh, dt, sm_vn Lt, ag, sm_vn Nu, xh, xl) (nI N, nI S, nI B, nI T, yu, sm_vn R, sm_vn Bu, sm_vn L, sm_vn Lt, ag, sm_vn Nu, bx)) (nI N, nI S, nI B, nI T, yu, sm_vn R, sm_vn Bu, sm_vn L, sm_vn Lt, ag, sm_vn Nu, bx) (nI a) (nI m) := by
        intro r hr
        unfold wpY_left
        refine sm_ynT c2 ha (sm_ynT c2 hm ?_)
        rw [sm_ix8]
        refine And.intro ev ?_
        rw [sm_cl (by omega), sm_va]
        exact ⟨hr, sm_irI (sm_Ii hR)⟩
      rcases hK a ha m hm with ⟨z1, z2⟩ | ⟨z1, z2, z3, z4⟩
      · refine nm_r z2 (br_f (by decide) (hy 0 ?_))
        rw [z1]
        rfl
      · dsimp only at z4
        refine nm_r z4 (br_t (nI_pos' (by omega)) (And.intro (sm_in (by omega) (by omega)) (hy _ ?_)))
        rw [sm_cl (by omega), sm_va, sm_lft _ hca _ (by omega)]
theorem i_vc_budget {k : Nat} {u : SX} {v : SY} (I : i_Rel k u v) (hk : k + 3 ≤ 1540) (v1 : Int32) (v2 : Int32) : wpX_budget (fun r => wpY_budget (fun r' => r' = r ∧ i_Rel (k + 3) u v) v v1 v2) u v1 v2 := by
  refine sm_irE (P := fun u v => wpX_budget (fun r => wpY_budget (fun r' => r' = r ∧ i_Rel (k + 3) u v) v v1 v2) u v1 v2) I ?_
  intro N S B T all up fr R Bu C Lt Nu L du nw al de wh dt ag xh xl yu bx h
  have hR := h
  obtain ⟨hC, hA, hU, hV, hB, hX, hCK, hK, hP, hM⟩ := h
  have hC' := hC
  obtain ⟨c1, c2, c3, c4, c5, c6, c7, c8⟩ := hC'
  unfold wpX_budget
  rcases sm_ix v1 (n := N) (by omega) with hn | ⟨a, ha, rfl⟩
  · refine sm_ndF hn ?_
    unfold wpY_budget
    exact sm_ynF hn ⟨rfl, sm_irI (sm_Ii hR)⟩
  · refine sm_ndT c2 ha ?_
    rcases sm_ix v2 (n := N) (by omega) with hn2 | ⟨m, hm, rfl⟩
    · refine sm_ndF hn2 ?_
      unfold wpY_budget
      exact sm_ynT c2 ha (sm_ynF hn2 ⟨rfl, sm_irI (sm_Ii hR)⟩)
    · have ev : vp_in (nI (8 * a + m)) 64 := sm_in (by omega) (by omega)
      refine sm_ndT c2 hm ?_
      rw [sm_ix8]
      refine And.intro ev ?_
      unfold wpY_budget
      refine sm_ynT c2 ha (sm_ynT c2 hm ?_)
      rw [sm_ix8]
      exact And.intro ev ⟨rfl, sm_irI (sm_Ii hR)⟩
theorem i_vc_nodeField {k : Nat} {u : SX} {v : SY} (I : i_Rel k u v) (hk : k + 3 ≤ 1540) (v1 : Int32) (v2 : Int32) : wpX_nodeField (fun r => wpY_nodeField (fun r' => r' = r ∧ i_Rel (k + 3) u v) v v1 v2) u v1 v2 := by
  refine sm_irE (P := fun u v => wpX_nodeField (fun r => wpY_nodeField (fun r' => r' = r ∧ i_Rel (k + 3) u v) v v1 v2) u v1 v2) I ?_
  intro N S B T all up fr R Bu C Lt Nu L du nw al de wh dt ag xh xl yu bx h
  have hR := h
  obtain ⟨hC, hA, hU, hV, hB, hX, hCK, hK, hP, hM⟩ := h
  have hC' := hC
  obtain ⟨c1, c2, c3, c4, c5, c6, c7, c8⟩ := hC'
  unfold wpX_nodeField
  rcases sm_ix v1 (n := N) (by omega) with hn | ⟨a, ha, rfl⟩
  · refine sm_ndF hn ?_
    unfold wpY_nodeField
    exact sm_ynF hn ⟨rfl, sm_irI (sm_Ii hR)⟩
  · have va : vp_in (nI a) 8 := sm_in (by omega) (by omega)
    have hyu := hU a ha
    refine sm_ndT c2 ha (br_c (fun h1 => ?_) (fun h1 => br_c (fun h2 => br_c (fun h3 => ?_) (fun h3 => br_c (fun h4 => And.intro va ?_) (fun h4 => br_c (fun h5 => And.intro va ?_) (fun h5 => And.intro va ?_)))) (fun h2 => ?_)))
    all_goals unfold wpY_nodeField
    · exact sm_ynT c2 ha (br_t h1 ⟨rfl, sm_irI (sm_Ii hR)⟩)
    · refine sm_ynT c2 ha (br_f h1 (br_t h2 (br_t h3 (And.intro va ?_))))
      rw [sm_cl (by omega), hyu, sm_upb up (by omega), sm_bi0]
      refine br_c (fun z => ⟨?_, sm_irI (sm_Ii hR)⟩) (fun z => ⟨?_, sm_irI (sm_Ii hR)⟩)
      · rw [z]; rfl
      · rw [sm_nf z]; rfl
    · exact sm_ynT c2 ha (br_f h1 (br_t h2 (br_f h3 (br_t h4 (And.intro va ⟨rfl, sm_irI (sm_Ii hR)⟩)))))
    · exact sm_ynT c2 ha (br_f h1 (br_t h2 (br_f h3 (br_f h4 (br_t h5 (And.intro va ⟨rfl, sm_irI (sm_Ii hR)⟩))))))
    · exact sm_ynT c2 ha (br_f h1 (br_t h2 (br_f h3 (br_f h4 (br_f h5 (And.intro va ⟨rfl, sm_irI (sm_Ii hR)⟩))))))
    · exact sm_ynT c2 ha (br_f h1 (br_f h2 ⟨rfl, sm_irI (sm_Ii hR)⟩))
theorem i_vc_message {k : Nat} {u : SX} {v : SY} (I : i_Rel k u v) (hk : k + 3 ≤ 1540) (v1 : Int32) (v2 : Int32) : wpX_message (fun r => wpY_message (fun r' => r' = r ∧ i_Rel (k + 3) u v) v v1 v2) u v1 v2 := by
  refine sm_irE (P := fun u v => wpX_message (fun r => wpY_message (fun r' => r' = r ∧ i_Rel (k + 3) u v) v v1 v2) u v1 v2) I ?_
  intro N S B T all up fr R Bu C Lt Nu L du nw al de wh dt ag xh xl yu bx h
  have hR := h
  obtain ⟨hC, hA, hU, hV, hB, hX, hCK, hK, hP, hM⟩ := h
  have hC' := hC
  obtain ⟨c1, c2, c3, c4, c5, c6, c7, c8⟩ := hC'
  unfold wpX_message
  rcases sm_ix v1 (n := S) (by omega) with hn | ⟨s, hs, rfl⟩
  · refine sm_ocN hn ?_
    unfold wpY_message
    exact sm_yoN hn ⟨rfl, sm_irI (sm_Ii hR)⟩
  · have hfr := (hM.2 s hs).1
    by_cases ho : bx (10 * s) = 0
    · rw [decide_eq_true ho] at hfr
      refine sm_ocF c4 hs hfr ?_
      unfold wpY_message
      exact sm_yoF c4 hs ho ⟨rfl, sm_irI (sm_Ii hR)⟩
    · rw [decide_eq_false ho] at hfr
      have vs : vp_in (nI s) 24 := sm_in (by omega) (by omega)
      refine sm_ocT c4 hs hfr (br_c (fun h1 => ?_) (fun h1 => br_c (fun h2 => ?_) (fun h2 => ?_)))
      · unfold wpY_message
        exact sm_yoT c4 hs ho (br_t h1 ⟨rfl, sm_irI (sm_Ii hR)⟩)
      · obtain ⟨w, hw, rfl⟩ := nI_of2 (n := 9) (x := v2) (M := 9) (by decide) h1 h2
        obtain ⟨kd, fo, to, og, su, nu, c, q, hH, hW6, w6, ⟨hc3, hq⟩, hhd, hls⟩ := (hM.2 s hs).2 ho
        have hy : ∀ r : Int32, bx (10 * s + w) = r → wpY_message (fun r' => r' = r ∧ i_Rel (k + 3) (nI N, nI S, nI B, nI T, all, up, fr, sm_vn R, sm_vn Bu, du, nw, al, de, sm_vn C, wh, dt, sm_vn Lt, ag, sm_vn Nu, xh, xl) (nI N, nI S, nI B, nI T, yu, sm_vn R, sm_vn Bu, sm_vn L, sm_vn Lt, ag, sm_vn Nu, bx)) (nI N, nI S, nI B, nI T, yu, sm_vn R, sm_vn Bu, sm_vn L, sm_vn Lt, ag, sm_vn Nu, bx) (nI s) (nI w) := by
          intro r hr
          unfold wpY_message
          refine sm_yoT c4 hs ho (br_f h1 (br_f (Int32.not_lt.mpr h2) ?_))
          rw [sm_m10, nI_add]
          refine And.intro (sm_in (by omega) (by omega)) ?_
          rw [sm_cl (by omega)]
          exact ⟨hr, sm_irI (sm_Ii hR)⟩
        have hql : ∀ i, i < 3 → q i < 256 := by
          intro i hi
          by_cases e : i < c
          · have := (hq i hi).1 e
            omega
          · rw [((hq i hi).2 (by omega)).1]; omega
        by_cases e5 : w < 5
        · refine br_f (nI_ge (b := 5) e5 (by decide)) (And.intro vs (hy _ ?_))
          rw [sm_cl (by omega), hhd, sm_msgh hH c2 hW6 e5]
        · refine br_t (nI_le (a := 5) (by omega) (by omega)) ?_
          by_cases e6 : w = 5
          · subst e6
            refine br_t rfl (And.intro vs (hy _ ?_))
            rw [sm_cl (by omega), hhd, (sm_hr hH c2).2.2.2.2.2]
            exact hW6.2.2.2.2.2
          · refine br_f (sm_ne (b := 5) (by omega) (by omega) e6) (And.intro vs ?_)
            rw [sm_cl (by omega), hls]
            refine nm_r (sm_lc (hql 0 (by omega)) (hql 1 (by omega)) (hql 2 (by omega)) hc3) ?_
            by_cases e7 : w = 6
            · subst e7
              exact br_t rfl (hy _ w6)
            · obtain ⟨i, rfl⟩ : ∃ i, w = 7 + i := ⟨w - 7, by omega⟩
              have hsub : nI (7 + i) - 7 = nI i := by
                rw [show (7 : Int32) = nI 7 from rfl, pk_sub (by omega)]
                exact congrArg nI (by omega)
              refine br_f (sm_ne (b := 6) (by omega) (by omega) e7) (nm_r hsub ?_)
              by_cases e8 : c ≤ i
              · exact br_t (nI_le e8 (by omega)) (hy _ ((hq i (by omega)).2 e8).2)
              · refine br_f (nI_ge (by omega) (by omega)) (And.intro vs (hy _ ?_))
                rw [sm_lq (hql 0 (by omega)) (hql 1 (by omega)) (hql 2 (by omega)) hc3 (by omega)]
                exact ((hq i (by omega)).1 (by omega)).2.2
      · unfold wpY_message
        exact sm_yoT c4 hs ho (br_f h1 (br_t (Int32.not_le.mp h2) ⟨rfl, sm_irI (sm_Ii hR)⟩))
theorem i_vc_agreed {k : Nat} {u : SX} {v : SY} (I : i_Rel k u v) (hk : k + 3 ≤ 1540) (v1 : Int32) : wpX_agreed (fun r => wpY_agreed (fun r' => r' = r ∧ i_Rel (k + 3) u v) v v1) u v1 := by
  refine sm_irE (P := fun u v => wpX_agreed (fun r => wpY_agreed (fun r' => r' = r ∧ i_Rel (k + 3) u v) v v1) u v1) I ?_
  intro N S B T all up fr R Bu C Lt Nu L du nw al de wh dt ag xh xl yu bx h
  have hR := h
  obtain ⟨hC, hA, hU, hV, hB, hX, hCK, hK, hP, hM⟩ := h
  have hC' := hC
  obtain ⟨c1, c2, c3, c4, c5, c6, c7, c8⟩ := hC'
  unfold wpX_agreed
  rcases sm_ix v1 (n := N) (by omega) with hn | ⟨m, hm, rfl⟩
  · refine sm_ndF hn ?_
    unfold wpY_agreed
    exact sm_ynF hn ⟨rfl, sm_irI (sm_Ii hR)⟩
  · refine sm_ndT c2 hm ⟨N + 1, sm_xag c2 hm hV.1 (fun hq => ?_) (fun hq => ?_) N 0 (-1) (by omega) (Or.inl ⟨rfl, fun a ha => absurd ha (by omega)⟩)⟩
    · unfold wpY_agreed
      exact sm_ynT c2 hm ⟨N + 1, sm_yag c2 hm hV.1 hU (fun _ => ⟨rfl, sm_irI (sm_Ii hR)⟩) (fun z => absurd hq z) N 0 (by omega) (fun a' b ha' => absurd ha' (by omega))⟩
    · unfold wpY_agreed
      exact sm_ynT c2 hm ⟨N + 1, sm_yag c2 hm hV.1 hU (fun z => absurd z hq) (fun _ => ⟨rfl, sm_irI (sm_Ii hR)⟩) N 0 (by omega) (fun a' b ha' => absurd ha' (by omega))⟩
end
