section
/-! pure rows to paste: stores, nI and lN arithmetic, masks, shifts, narrowing, branches by naturals (pk_le, pk_lt, pk_eq), loops (lp1 .. lp16: the measure of the state; rp1 ..: recursion), negatives. Take what you need -/
theorem pk_us {f : Nat → Int32} {k : Nat} {x : Int32} : upd f k x k = x := if_pos rfl
theorem pk_un {f : Nat → Int32} {k j : Nat} {x : Int32} (h : j ≠ k) : upd f k x j = f j := if_neg h
theorem pk_uLs {f : Nat → Int64} {k : Nat} {x : Int64} : vp_updL f k x k = x := if_pos rfl
theorem pk_uLn {f : Nat → Int64} {k j : Nat} {x : Int64} (h : j ≠ k) : vp_updL f k x j = f j := if_neg h
theorem pk_sub {a b : Nat} (h : b ≤ a) : nI a - nI b = nI (a - b) := by
  obtain ⟨c, rfl⟩ : ∃ c, a = c + b := ⟨a - b, by omega⟩
  rw [← nI_add, Int32.add_sub_cancel, Nat.add_sub_cancel]
theorem pk_m1 (n : Nat) : nI (n + 1) + (-1) = nI n := by
  rw [← nI_1, Int32.add_assoc, show (1 : Int32) + (-1) = 0 from rfl, Int32.add_zero]
theorem pk_mul (a b : Nat) : nI a * nI b = nI (a * b) := (Int32.ofNat_mul a b).symm
theorem pk_div {a d : Nat} (ha : a < 2 ^ 31) (h0 : 0 < d) (hd : d < 2 ^ 31) : nI a / nI d = nI (a / d) := by
  apply Int32.toInt_inj.mp
  rw [lg_idiv_nonneg (by rw [nI_toInt ha]; omega) (by rw [nI_toInt hd]; omega), nI_toInt ha, nI_toInt hd, nI_toInt (Nat.lt_of_le_of_lt (Nat.div_le_self a d) ha)]
  first | rfl | exact (Int.natCast_ediv _ _).symm
theorem pk_rem {a d : Nat} (ha : a < 2 ^ 31) (h0 : 0 < d) (hd : d < 2 ^ 31) : nI a - nI a / nI d * nI d = nI (a % d) := by
  rw [pk_div ha h0 hd, pk_mul, pk_sub (Nat.div_mul_le_self a d)]
  exact congrArg nI (by have := Nat.div_add_mod' a d; omega)
theorem pk_sub_toInt {a b : Nat} (ha : a < 2 ^ 30) (hb : b < 2 ^ 30) : (nI a - nI b).toInt = (a : Int) - b := by
  rw [Int32.toInt_sub, nI_toInt (by omega), nI_toInt (by omega)]
  exact Int.bmod_eq_of_le (by omega) (by omega)
theorem pk_sneg {a b : Nat} (hb : b < 2 ^ 30) (h : a < b) : nI a - nI b < 0 := by
  rw [Int32.lt_iff_toInt_lt, pk_sub_toInt (by omega) hb, show (0 : Int32).toInt = 0 from by decide]
  omega
theorem pk_ix (x : Int32) {n : Nat} (hn : n < 2 ^ 31) : x < 0 ∨ nI n ≤ x ∨ ∃ j : Nat, j < n ∧ x = nI j := by
  by_cases h : x < 0
  · exact Or.inl h
  · obtain ⟨j, hj, rfl⟩ := nI_of h
    by_cases h2 : j < n
    · exact Or.inr (Or.inr ⟨j, h2, rfl⟩)
    · exact Or.inr (Or.inl (nI_le (by omega) hj))
theorem pk_le {x y : Int32} {A B : Prop} (a b : Nat) (f : a ≤ b → A) (g : b < a → B) (hx : x = nI a := by rfl) (hy : y = nI b := by rfl) (ha : a < 2 ^ 31 := by omega) (hb : b < 2 ^ 31 := by omega) : (x ≤ y → A) ∧ (¬ x ≤ y → B) := by
  subst hx hy
  rw [nI_leI ha hb]
  exact ⟨f, fun z => g (by omega)⟩
theorem pk_lt {x y : Int32} {A B : Prop} (a b : Nat) (f : a < b → A) (g : b ≤ a → B) (hx : x = nI a := by rfl) (hy : y = nI b := by rfl) (ha : a < 2 ^ 31 := by omega) (hb : b < 2 ^ 31 := by omega) : (x < y → A) ∧ (¬ x < y → B) := by
  subst hx hy
  rw [nI_ltI ha hb]
  exact ⟨f, fun z => g (by omega)⟩
theorem pk_eq {x y : Int32} {A B : Prop} (a b : Nat) (f : a = b → A) (g : a ≠ b → B) (hx : x = nI a := by rfl) (hy : y = nI b := by rfl) (ha : a < 2 ^ 31 := by omega) (hb : b < 2 ^ 31 := by omega) : (x = y → A) ∧ (¬ x = y → B) := by
  subst hx hy
  rw [nI_eq ha hb]
  exact ⟨f, g⟩
theorem pk_in {x : Int32} (n N : Nat) (h : n < N) (hx : x = nI n := by rfl) (hN : N < 2 ^ 31 := by omega) : vp_in x N := by
  subst hx
  exact vp_in_nI h hN
theorem pk_cl {x : Int32} (n : Nat) (hx : x = nI n := by rfl) (h : n < 2 ^ 31 := by omega) : x.toNatClampNeg = n := by
  subst hx
  exact nI_clamp h
theorem pk_tn {n : Nat} (h : n < 2 ^ 32) : (nI n).toBitVec.toNat = n := Nat.mod_eq_of_lt h
theorem pk_and (x : Int32) {m : Int32} (k : Nat) (hm : m.toBitVec.toNat = 2 ^ k - 1) : x &&& m = nI (x.toBitVec.toNat % 2 ^ k) := by
  apply Int32.toBitVec_inj.mp
  apply BitVec.eq_of_toNat_eq
  rw [Int32.toBitVec_and, BitVec.toNat_and, hm, Nat.and_two_pow_sub_one_eq_mod]
  show _ = (BitVec.ofNat 32 _).toNat
  rw [BitVec.toNat_ofNat]
  exact (Nat.mod_eq_of_lt (Nat.lt_of_le_of_lt (Nat.mod_le _ _) x.toBitVec.isLt)).symm
theorem pk_andN {n : Nat} (h : n < 2 ^ 32) {m : Int32} (k : Nat) (hm : m.toBitVec.toNat = 2 ^ k - 1) : nI n &&& m = nI (n % 2 ^ k) := by
  rw [pk_and _ k hm, pk_tn h]
theorem pk_andE (x : Int32) {m : Int32} (k : Nat) (hm : m.toBitVec.toNat = 2 ^ k - 1) : ∃ j : Nat, j < 2 ^ k ∧ x &&& m = nI j := ⟨_, Nat.mod_lt _ (Nat.two_pow_pos k), pk_and x k hm⟩
theorem pk_andIn (x : Int32) {m : Int32} (k : Nat) (hm : m.toBitVec.toNat = 2 ^ k - 1) (hk : k ≤ 30) : vp_in (x &&& m) (2 ^ k) := by
  obtain ⟨j, hj, e⟩ := pk_andE x k hm
  rw [e]
  exact vp_in_nI hj (Nat.lt_of_le_of_lt (Nat.pow_le_pow_right (by decide) hk) (by decide))
theorem pk_shl (a s : Int32) (k : Nat) (hs : (s.toBitVec.smod 32).toNat = k) : (a <<< s).toBitVec.toNat = a.toBitVec.toNat * 2 ^ k % 2 ^ 32 := by
  show (a.toBitVec <<< (s.toBitVec.smod 32).toNat).toNat = _
  rw [hs, BitVec.toNat_shiftLeft, Nat.shiftLeft_eq]
theorem pk_shlN {n : Nat} (s : Int32) (k : Nat) (hs : (s.toBitVec.smod 32).toNat = k) (h : n * 2 ^ k < 2 ^ 32) : nI n <<< s = nI (n * 2 ^ k) := by
  apply Int32.toBitVec_inj.mp
  apply BitVec.eq_of_toNat_eq
  have hn : n < 2 ^ 32 := Nat.lt_of_le_of_lt (Nat.le_mul_of_pos_right n (Nat.two_pow_pos k)) h
  rw [pk_shl _ _ k hs, pk_tn hn, pk_tn h, Nat.mod_eq_of_lt h]
theorem pk_shr (a s : Int32) (k : Nat) (hs : (s.toBitVec.smod 32).toNat = k) : (a >>> s).toInt = a.toInt >>> k := by
  show (a.toBitVec.sshiftRight (s.toBitVec.smod 32).toNat).toInt = _
  rw [hs, BitVec.toInt_sshiftRight]
  rfl
theorem pk_shrN {n : Nat} (h : n < 2 ^ 31) (s : Int32) (k : Nat) (hs : (s.toBitVec.smod 32).toNat = k) : nI n >>> s = nI (n / 2 ^ k) := by
  apply Int32.toInt_inj.mp
  have h2 : n / 2 ^ k ≤ n := Nat.div_le_self _ _
  rw [pk_shr _ _ k hs, nI_toInt h, nI_toInt (by omega), Int.shiftRight_eq_div_pow]
  rfl
theorem pk_ushr (x s : Int32) (k : Nat) (hs : ((s.toUInt32 &&& Int32.toUInt32 31).toBitVec % 32).toNat = k) : (x.toUInt32 >>> (s.toUInt32 &&& Int32.toUInt32 31)).toInt32.toBitVec.toNat = x.toBitVec.toNat / 2 ^ k := by
  have e : (x.toUInt32 >>> (s.toUInt32 &&& Int32.toUInt32 31)).toInt32.toBitVec = x.toBitVec >>> k := by
    rw [← hs]
    exact UInt32.toBitVec_shiftRight _ _
  rw [e, BitVec.toNat_ushiftRight, Nat.shiftRight_eq_div_pow]
theorem pk_ushrN {n : Nat} (hn : n < 2 ^ 32) (s : Int32) (k : Nat) (hs : ((s.toUInt32 &&& Int32.toUInt32 31).toBitVec % 32).toNat = k) : ((nI n).toUInt32 >>> (s.toUInt32 &&& Int32.toUInt32 31)).toInt32 = nI (n / 2 ^ k) := by
  apply Int32.toBitVec_inj.mp
  apply BitVec.eq_of_toNat_eq
  rw [pk_ushr _ s k hs, pk_tn hn, pk_tn (Nat.lt_of_le_of_lt (Nat.div_le_self _ _) hn)]
theorem pk_nb (z : Int32) : narrow .byte (.int z.toInt8.toInt32) = .int z.toInt8.toInt32 := congrArg Value.int (by simp)
theorem pk_ns (z : Int32) : narrow .short (.int z.toInt16.toInt32) = .int z.toInt16.toInt32 := congrArg Value.int (by simp)
theorem pk_fb (r : Int32) : fits .byte (.int r.toInt8.toInt32) = true := by
  have ⟨a, b⟩ := lg_i2b_range r
  have h1 : (-128 : Int32).toInt = -128 := by decide
  have h2 : (127 : Int32).toInt = 127 := by decide
  simp only [fits, Bool.and_eq_true, decide_eq_true_eq, Int32.le_iff_toInt_le, h1, h2]
  omega
theorem pk_fs (r : Int32) : fits .short (.int r.toInt16.toInt32) = true := by
  have ⟨a, b⟩ := lg_i2s_range r
  have h1 : (-32768 : Int32).toInt = -32768 := by decide
  have h2 : (32767 : Int32).toInt = 32767 := by decide
  simp only [fits, Bool.and_eq_true, decide_eq_true_eq, Int32.le_iff_toInt_le, h1, h2]
  omega
theorem pk_charN {q : Nat} (hq : q < 65536) : narrow .char (.int (nI q)) = .int (nI q) ∧ fits .char (.int (nI q)) = true := by
  constructor
  · have e : (nI q).toUInt32.toUInt16.toUInt32.toInt32 = nI q := by
      apply Int32.toBitVec_inj.mp
      apply BitVec.eq_of_toNat_eq
      show (nI q).toUInt32.toUInt16.toUInt32.toNat = q % 2 ^ 32
      rw [UInt16.toNat_toUInt32, UInt32.toNat_toUInt16, show (nI q).toUInt32.toNat = q % 2 ^ 32 from rfl]
      omega
    exact congrArg Value.int e
  · have a : (0 : Int32) ≤ nI q := nI_pos' (by omega)
    have b : nI q ≤ 65535 := nI_le (b := 65535) (by omega) (by decide)
    show (decide ((0 : Int32) ≤ nI q) && decide (nI q ≤ 65535)) = true
    rw [decide_eq_true a, decide_eq_true b]
    rfl
theorem pk_char (x : Int32) : (x.toUInt32 % 65536).toInt32 = nI (x.toBitVec.toNat % 65536) := by
  apply Int32.toBitVec_inj.mp
  apply BitVec.eq_of_toNat_eq
  rw [pk_tn (by omega)]
  show (x.toUInt32 % 65536).toNat = _
  rw [UInt32.toNat_mod]
  rfl
theorem pk_nc (x : Int32) : narrow .char (.int (x.toUInt32 % 65536).toInt32) = .int (x.toUInt32 % 65536).toInt32 := by
  rw [pk_char]
  exact (pk_charN (Nat.mod_lt _ (by decide))).1
theorem pk_fc (x : Int32) : fits .char (.int (x.toUInt32 % 65536).toInt32) = true := by
  rw [pk_char]
  exact (pk_charN (Nat.mod_lt _ (by decide))).2
theorem pk_vb (z : Int32) : vp_nar .byte z.toInt8.toInt32 = z.toInt8.toInt32 := by rw [vp_nar_byte]; simp
theorem pk_vs (z : Int32) : vp_nar .short z.toInt16.toInt32 = z.toInt16.toInt32 := by rw [vp_nar_short]; simp
theorem pk_vc (z : Int32) : vp_nar .char (z.toUInt32 % 65536).toInt32 = (z.toUInt32 % 65536).toInt32 := Value.int.inj (pk_nc z)
/-! ===== Int32 by its bits: bt x i ===== -/
def bt (x : Int32) (i : Nat) : Bool := x.toBitVec.getLsbD i
theorem b_ext {x y : Int32} (h : ∀ i, i < 32 → bt x i = bt y i) : x = y := Int32.toBitVec_inj.mp (BitVec.eq_of_getLsbD_eq (fun i hi => h i hi))
theorem b_or (x y : Int32) (i : Nat) : bt (x ||| y) i = (bt x i || bt y i) := by unfold bt; rw [Int32.toBitVec_or, BitVec.getLsbD_or]
theorem b_and (x y : Int32) (i : Nat) : bt (x &&& y) i = (bt x i && bt y i) := by unfold bt; rw [Int32.toBitVec_and, BitVec.getLsbD_and]
theorem b_xor (x y : Int32) (i : Nat) : bt (x ^^^ y) i = (bt x i ^^ bt y i) := by unfold bt; rw [Int32.toBitVec_xor, BitVec.getLsbD_xor]
theorem b_big {x : Int32} {i : Nat} (h : 32 ≤ i) : bt x i = false := BitVec.getLsbD_of_ge _ _ h
theorem b_255 (i : Nat) : bt 255 i = decide (i < 8) := by
  rcases Nat.lt_or_ge i 32 with h | h
  · exact (by decide +kernel : ∀ i, i < 32 → bt 255 i = decide (i < 8)) i h
  · rw [b_big h, decide_eq_false (by omega)]
theorem b_65535 (i : Nat) : bt 65535 i = decide (i < 16) := by
  rcases Nat.lt_or_ge i 32 with h | h
  · exact (by decide +kernel : ∀ i, i < 32 → bt 65535 i = decide (i < 16)) i h
  · rw [b_big h, decide_eq_false (by omega)]
theorem b_m1 : ∀ i, i < 32 → bt (-1) i = true := by decide +kernel
theorem b_0 (i : Nat) : bt 0 i = false := BitVec.getLsbD_zero
theorem s_l : ∀ n, n < 32 → ((nI n &&& 31).toBitVec.smod 32).toNat = n := by decide +kernel
theorem s_u : ∀ n, n < 32 → (((nI n).toUInt32 &&& Int32.toUInt32 31).toBitVec % 32).toNat = n := by decide +kernel
theorem b_shl (n : Nat) (hn : n < 32) (x : Int32) {i : Nat} (hi : i < 32) : bt (x <<< (nI n &&& 31)) i = (decide (n ≤ i) && bt x (i - n)) := by
  unfold bt
  rw [Int32.toBitVec_shiftLeft]
  show (x.toBitVec <<< ((nI n &&& 31).toBitVec.smod 32).toNat).getLsbD i = _
  rw [s_l n hn, BitVec.getLsbD_shiftLeft]
  rcases Nat.lt_or_ge i n with h | h
  · simp [h, Nat.not_le.mpr h]
  · simp [hi, h, Nat.not_lt.mpr h]
theorem b_ushr (n : Nat) (hn : n < 32) (x : Int32) (i : Nat) : bt ((x.toUInt32 >>> ((nI n).toUInt32 &&& Int32.toUInt32 31)).toInt32) i = bt x (n + i) := by
  show (x.toUInt32 >>> ((nI n).toUInt32 &&& Int32.toUInt32 31)).toBitVec.getLsbD i = x.toUInt32.toBitVec.getLsbD (n + i)
  rw [UInt32.toBitVec_shiftRight]
  show (x.toUInt32.toBitVec >>> (((nI n).toUInt32 &&& Int32.toUInt32 31).toBitVec % 32).toNat).getLsbD i = _
  rw [s_u n hn, BitVec.getLsbD_ushiftRight]
theorem b_sshr (n : Nat) (hn : n < 32) (x : Int32) {i : Nat} (hi : i < 32) : bt (x >>> (nI n &&& 31)) i = if n + i < 32 then bt x (n + i) else bt x 31 := by
  unfold bt
  rw [Int32.toBitVec_shiftRight]
  show (x.toBitVec.sshiftRight ((nI n &&& 31).toBitVec.smod 32).toNat).getLsbD i = _
  rw [s_l n hn, BitVec.getLsbD_sshiftRight, BitVec.msb_eq_getLsbD_last]
  simp [hi]
theorem b_shl8 (x : Int32) {i : Nat} (hi : i < 32) : bt (x <<< ((8 : Int32) &&& 31)) i = (decide (8 ≤ i) && bt x (i - 8)) := b_shl 8 (by omega) x hi
theorem b_shl16 (x : Int32) {i : Nat} (hi : i < 32) : bt (x <<< ((16 : Int32) &&& 31)) i = (decide (16 ≤ i) && bt x (i - 16)) := b_shl 16 (by omega) x hi
theorem b_shl24 (x : Int32) {i : Nat} (hi : i < 32) : bt (x <<< ((24 : Int32) &&& 31)) i = (decide (24 ≤ i) && bt x (i - 24)) := b_shl 24 (by omega) x hi
theorem b_sshr8 (x : Int32) {i : Nat} (hi : i < 32) : bt (x >>> ((8 : Int32) &&& 31)) i = if 8 + i < 32 then bt x (8 + i) else bt x 31 := b_sshr 8 (by omega) x hi
end
section
/-! sets of states: only s < 6 counts; iteration, least and greatest fixed points -/
def ms_le (S T : Nat → Bool) : Prop := ∀ s, s < 6 → S s = true → T s = true
theorem ms_rf (S : Nat → Bool) : ms_le S S := fun _ _ h => h
theorem ms_tr {S T U : Nat → Bool} (a : ms_le S T) (b : ms_le T U) : ms_le S U := fun s hs h => b s hs (a s hs h)
def ms_c (b : Bool) : Nat := if b = true then 1 else 0
theorem ms_c1 (b : Bool) : ms_c b ≤ 1 := by cases b <;> decide
theorem ms_cm {a b : Bool} (h : a = true → b = true) : ms_c a ≤ ms_c b := by
  cases a
  · exact Nat.zero_le _
  · rw [h rfl]; exact Nat.le_refl _
theorem ms_cb {a b : Bool} (h : ms_c a ≤ ms_c b) (ha : a = true) : b = true := by
  subst ha
  cases b
  · exact absurd h (by decide)
  · rfl
def ms_card (S : Nat → Bool) : Nat := ms_c (S 0) + ms_c (S 1) + ms_c (S 2) + ms_c (S 3) + ms_c (S 4) + ms_c (S 5)
theorem ms_card6 (S : Nat → Bool) : ms_card S ≤ 6 := by
  have h0 := ms_c1 (S 0)
  have h1 := ms_c1 (S 1)
  have h2 := ms_c1 (S 2)
  have h3 := ms_c1 (S 3)
  have h4 := ms_c1 (S 4)
  have h5 := ms_c1 (S 5)
  unfold ms_card
  omega
theorem ms_s6 {s : Nat} (h : s < 6) : s = 0 ∨ s = 1 ∨ s = 2 ∨ s = 3 ∨ s = 4 ∨ s = 5 := by omega
theorem ms_cardm {S T : Nat → Bool} (h : ms_le S T) : ms_card S ≤ ms_card T := by
  have h0 := ms_cm (h 0 (by decide))
  have h1 := ms_cm (h 1 (by decide))
  have h2 := ms_cm (h 2 (by decide))
  have h3 := ms_cm (h 3 (by decide))
  have h4 := ms_cm (h 4 (by decide))
  have h5 := ms_cm (h 5 (by decide))
  unfold ms_card
  omega
theorem ms_cardb {S T : Nat → Bool} (h : ms_le S T) (e : ms_card T ≤ ms_card S) : ms_le T S := by
  have h0 := ms_cm (h 0 (by decide))
  have h1 := ms_cm (h 1 (by decide))
  have h2 := ms_cm (h 2 (by decide))
  have h3 := ms_cm (h 3 (by decide))
  have h4 := ms_cm (h 4 (by decide))
  have h5 := ms_cm (h 5 (by decide))
  unfold ms_card at e
  intro s hs
  rcases ms_s6 hs with rfl | rfl | rfl | rfl | rfl | rfl
  · exact ms_cb (by omega)
  · exact ms_cb (by omega)
  · exact ms_cb (by omega)
  · exact ms_cb (by omega)
  · exact ms_cb (by omega)
  · exact ms_cb (by omega)
theorem ms_cardl {S T : Nat → Bool} (h : ms_le S T) (e : ¬ ms_le T S) : ms_card S + 1 ≤ ms_card T := by
  rcases Nat.lt_or_ge (ms_card S) (ms_card T) with a | a
  · exact a
  · exact absurd (ms_cardb h a) e
def ms_it (F : (Nat → Bool) → Nat → Bool) (S : Nat → Bool) : Nat → (Nat → Bool)
  | 0 => S
  | j + 1 => F (ms_it F S j)
def ms_e : Nat → Bool := fun _ => false
def ms_f : Nat → Bool := fun _ => true
theorem ms_eb (S : Nat → Bool) : ms_le ms_e S := fun _ _ h => nomatch (h : false = true)
theorem ms_ft (S : Nat → Bool) : ms_le S ms_f := fun _ _ _ => rfl
def ms_lf (F : (Nat → Bool) → Nat → Bool) : Nat → Bool := ms_it F ms_e 6
def ms_gf (F : (Nat → Bool) → Nat → Bool) : Nat → Bool := ms_it F ms_f 6
def ms_mono (F : (Nat → Bool) → Nat → Bool) : Prop := ∀ S T, ms_le S T → ms_le (F S) (F T)
theorem ms_itm {F G : (Nat → Bool) → Nat → Bool} (h : ∀ S T, ms_le S T → ms_le (F S) (G T)) {A B : Nat → Bool} (hab : ms_le A B) : ∀ j, ms_le (ms_it F A j) (ms_it G B j)
  | 0 => hab
  | j + 1 => h _ _ (ms_itm h hab j)
theorem ms_up {F : (Nat → Bool) → Nat → Bool} (hF : ms_mono F) : ∀ j, ms_le (ms_it F ms_e j) (ms_it F ms_e (j + 1))
  | 0 => ms_eb _
  | j + 1 => hF _ _ (ms_up hF j)
theorem ms_dn {F : (Nat → Bool) → Nat → Bool} (hF : ms_mono F) : ∀ j, ms_le (ms_it F ms_f (j + 1)) (ms_it F ms_f j)
  | 0 => ms_ft _
  | j + 1 => hF _ _ (ms_dn hF j)
theorem ms_st {F : (Nat → Bool) → Nat → Bool} (hF : ms_mono F) : ∀ j, ms_le (ms_it F ms_e (j + 1)) (ms_it F ms_e j) ∨ j + 1 ≤ ms_card (ms_it F ms_e (j + 1)) := by
  intro j
  induction j with
  | zero =>
    by_cases h : ms_le (ms_it F ms_e (0 + 1)) (ms_it F ms_e 0)
    · exact Or.inl h
    · have := ms_cardl (ms_up hF 0) h
      exact Or.inr (by omega)
  | succ j ih =>
    rcases ih with a | a
    · exact Or.inl (hF _ _ a)
    · by_cases h : ms_le (ms_it F ms_e (j + 1 + 1)) (ms_it F ms_e (j + 1))
      · exact Or.inl h
      · have := ms_cardl (ms_up hF (j + 1)) h
        exact Or.inr (by omega)
theorem ms_sd {F : (Nat → Bool) → Nat → Bool} (hF : ms_mono F) : ∀ j, ms_le (ms_it F ms_f j) (ms_it F ms_f (j + 1)) ∨ ms_card (ms_it F ms_f (j + 1)) + (j + 1) ≤ 6 := by
  intro j
  induction j with
  | zero =>
    by_cases h : ms_le (ms_it F ms_f 0) (ms_it F ms_f (0 + 1))
    · exact Or.inl h
    · have := ms_cardl (ms_dn hF 0) h
      have := ms_card6 (ms_it F ms_f 0)
      exact Or.inr (by omega)
  | succ j ih =>
    rcases ih with a | a
    · exact Or.inl (hF _ _ a)
    · by_cases h : ms_le (ms_it F ms_f (j + 1)) (ms_it F ms_f (j + 1 + 1))
      · exact Or.inl h
      · have := ms_cardl (ms_dn hF (j + 1)) h
        exact Or.inr (by omega)
theorem ms_lf1 {F : (Nat → Bool) → Nat → Bool} (hF : ms_mono F) : ms_le (F (ms_lf F)) (ms_lf F) := by
  rcases ms_st hF 6 with a | a
  · exact a
  · have := ms_card6 (ms_it F ms_e (6 + 1))
    omega
theorem ms_lf2 {F : (Nat → Bool) → Nat → Bool} (hF : ms_mono F) : ms_le (ms_lf F) (F (ms_lf F)) := ms_up hF 6
theorem ms_gf1 {F : (Nat → Bool) → Nat → Bool} (hF : ms_mono F) : ms_le (ms_gf F) (F (ms_gf F)) := by
  rcases ms_sd hF 6 with a | a
  · exact a
  · omega
theorem ms_gf2 {F : (Nat → Bool) → Nat → Bool} (hF : ms_mono F) : ms_le (F (ms_gf F)) (ms_gf F) := ms_dn hF 6
theorem ms_lfl {F : (Nat → Bool) → Nat → Bool} (hF : ms_mono F) {S : Nat → Bool} (h : ms_le (F S) S) : ∀ j, ms_le (ms_it F ms_e j) S
  | 0 => ms_eb _
  | j + 1 => ms_tr (hF _ _ (ms_lfl hF h j)) h
theorem ms_gfg {F : (Nat → Bool) → Nat → Bool} (hF : ms_mono F) {S : Nat → Bool} (h : ms_le S (F S)) : ∀ j, ms_le S (ms_it F ms_f j)
  | 0 => ms_ft _
  | j + 1 => ms_tr h (hF _ _ (ms_gfg hF h j))
/-! a function on places below n that is given by its values behind: by fuel -/
def fx_f {A : Type} (d0 : A) (Ph : (Nat → A) → Nat → A) : Nat → Nat → A
  | 0 => fun _ => d0
  | d + 1 => fun k => Ph (fx_f d0 Ph d) k
def fx_v {A : Type} (d0 : A) (Ph : (Nat → A) → Nat → A) (n : Nat) (k : Nat) : A := fx_f d0 Ph (n - k) k
def fx_loc {A : Type} (Ph : (Nat → A) → Nat → A) (n : Nat) : Prop := ∀ k : Nat, k < n → ∀ f g : Nat → A, (∀ j, k < j → j < n → f j = g j) → Ph f k = Ph g k
theorem fx_irr {A : Type} {d0 : A} {Ph : (Nat → A) → Nat → A} {n : Nat} (h : fx_loc Ph n) : ∀ d d' k, k < n → n - k ≤ d → n - k ≤ d' → fx_f d0 Ph d k = fx_f d0 Ph d' k := by
  intro d
  induction d with
  | zero => intro d' k hk h1; omega
  | succ d ih =>
    intro d' k hk h1 h2
    cases d' with
    | zero => omega
    | succ d' => exact h k hk _ _ (fun j a b => ih d' j b (by omega) (by omega))
theorem fx_eq {A : Type} {d0 : A} {Ph : (Nat → A) → Nat → A} {n : Nat} (h : fx_loc Ph n) {k : Nat} (hk : k < n) : fx_v d0 Ph n k = Ph (fx_v d0 Ph n) k := by
  show fx_f d0 Ph (n - k) k = _
  have e : n - k = (n - k - 1) + 1 := by omega
  rw [e]
  exact h k hk _ _ (fun j a b => fx_irr h _ _ j b (by omega) (Nat.le_refl _))
end
section
/-! terms, each operator ahead of its terms: ends, enclosing binders, depth -/
def fo_ar (t : Nat) : Nat := if t = 6 ∨ t = 7 then 2 else if 8 ≤ t ∧ t < 16 then 1 else 0
theorem fo_ar3 (t : Nat) : fo_ar t = 0 ∨ fo_ar t = 1 ∨ fo_ar t = 2 := by
  unfold fo_ar
  by_cases a : t = 6 ∨ t = 7
  · rw [if_pos a]; exact Or.inr (Or.inr rfl)
  · rw [if_neg a]
    by_cases b : 8 ≤ t ∧ t < 16
    · rw [if_pos b]; exact Or.inr (Or.inl rfl)
    · rw [if_neg b]; exact Or.inl rfl
theorem fo_ar2 {t : Nat} (a : t = 6 ∨ t = 7) : fo_ar t = 2 := if_pos a
theorem fo_ar1 {t : Nat} (a : 8 ≤ t) (b : t < 16) : fo_ar t = 1 := by
  unfold fo_ar
  rw [if_neg (by omega), if_pos ⟨a, b⟩]
theorem fo_ar0 {t : Nat} (a : t < 6 ∨ 16 ≤ t) : fo_ar t = 0 := by
  unfold fo_ar
  rw [if_neg (by omega), if_neg (by omega)]
theorem fo_ar2n {t : Nat} (a : fo_ar t = 2) : t = 6 ∨ t = 7 := by
  rcases (by omega : (t = 6 ∨ t = 7) ∨ (8 ≤ t ∧ t < 16) ∨ (t < 6 ∨ 16 ≤ t)) with h | h | h
  · exact h
  · rw [fo_ar1 h.1 h.2] at a; omega
  · rw [fo_ar0 h] at a; omega
abbrev fo_b (t : Nat) : Prop := 10 ≤ t ∧ t < 16
def fo_at (tk : Nat → Nat) (n : Nat) (E : Nat → Nat) (i : Nat) : Prop :=
  (fo_ar (tk i) = 0 → E i = i + 1) ∧ (fo_ar (tk i) = 1 → i + 1 < n ∧ E i = E (i + 1)) ∧ (fo_ar (tk i) = 2 → i + 1 < n ∧ E (i + 1) < n ∧ E i = E (E (i + 1)))
def fo_wf (tk : Nat → Nat) (n : Nat) (E : Nat → Nat) (a : Nat) : Prop := ∀ i, a ≤ i → i < n → i < E i ∧ E i ≤ n ∧ fo_at tk n E i
theorem fo_uq {tk : Nat → Nat} {n : Nat} {E E' : Nat → Nat} {a : Nat} (h : fo_wf tk n E a) (h' : fo_wf tk n E' a) : ∀ d i, n - i ≤ d → a ≤ i → i < n → E i = E' i := by
  intro d
  induction d with
  | zero => intro i h1 h2 h3; omega
  | succ d ih =>
    intro i h1 h2 h3
    obtain ⟨p1, p2, p3, p4, p5⟩ := h i h2 h3
    obtain ⟨q1, q2, q3, q4, q5⟩ := h' i h2 h3
    rcases fo_ar3 (tk i) with e | e | e
    · rw [p3 e, q3 e]
    · rw [(p4 e).2, (q4 e).2]
      exact ih (i + 1) (by omega) (by omega) (p4 e).1
    · obtain ⟨a1, a2, a3⟩ := p5 e
      obtain ⟨b1, b2, b3⟩ := q5 e
      have e1 := ih (i + 1) (by omega) (by omega) a1
      have g := (h (i + 1) (by omega) a1).1
      rw [a3, b3, ← e1]
      exact ih _ (by omega) (by omega) a2
theorem fo_lam {tk : Nat → Nat} {n : Nat} {E : Nat → Nat} (h : fo_wf tk n E 0) : ∀ d a p, n - a ≤ d → a < n → a ≤ p → p < E a → E p ≤ E a := by
  intro d
  induction d with
  | zero => intro a p h1 h2; omega
  | succ d ih =>
    intro a p h1 h2 h3 h4
    by_cases c0 : p = a
    · rw [c0]; exact Nat.le_refl _
    obtain ⟨p1, p2, p3, p4, p5⟩ := h a (Nat.zero_le _) h2
    rcases fo_ar3 (tk a) with e | e | e
    · have := p3 e
      omega
    · obtain ⟨a1, a2⟩ := p4 e
      rw [a2]
      exact ih (a + 1) p (by omega) a1 (by omega) (by omega)
    · obtain ⟨a1, a2, a3⟩ := p5 e
      have g1 := (h (a + 1) (Nat.zero_le _) a1).1
      have g2 := (h (E (a + 1)) (Nat.zero_le _) a2).1
      by_cases c : p < E (a + 1)
      · have := ih (a + 1) p (by omega) a1 (by omega) c
        omega
      · have := ih (E (a + 1)) p (by omega) a2 (by omega) (by omega)
        omega
theorem fo_lm {tk : Nat → Nat} {n : Nat} {E : Nat → Nat} (h : fo_wf tk n E 0) {a p : Nat} (ha : a < n) (h1 : a ≤ p) (h2 : p < E a) : E p ≤ E a := fo_lam h _ a p (Nat.le_refl _) ha h1 h2
def fo_enc (tk E : Nat → Nat) (k p : Nat) : Prop := p < k ∧ fo_b (tk p) ∧ k < E p
theorem fo_e3 {tk E : Nat → Nat} {k p : Nat} (h : fo_enc tk E (k + 1) p) : p = k ∨ fo_enc tk E k p := by
  obtain ⟨a, b, c⟩ := h
  rcases Nat.lt_or_ge p k with d | d
  · exact Or.inr ⟨d, b, by omega⟩
  · exact Or.inl (by omega)
theorem fo_e1 {tk E : Nat → Nat} {k p : Nat} (hn : ¬ fo_b (tk k)) (h : fo_enc tk E (k + 1) p) : fo_enc tk E k p := by
  rcases fo_e3 h with e | e
  · subst e; exact absurd h.2.1 hn
  · exact e
section
variable {tk E : Nat → Nat} {n : Nat}
theorem fo_e2 (h : fo_wf tk n E 0) {k p : Nat} (hk : k < n) (ar : fo_ar (tk k) = 2) (he : fo_enc tk E (E (k + 1)) p) : fo_enc tk E k p := by
  obtain ⟨a, b, c⟩ := he
  obtain ⟨a1, a2, a3⟩ := (h k (Nat.zero_le _) hk).2.2.2.2 ar
  have g1 := (h (k + 1) (Nat.zero_le _) a1).1
  have t2 := fo_ar2n ar
  rcases Nat.lt_trichotomy p k with d | d | d
  · exact ⟨d, b, by omega⟩
  · subst d; omega
  · have := fo_lm h (a := k + 1) (p := p) a1 (by omega) a
    omega
theorem fo_e4 (h : fo_wf tk n E 0) {k p q : Nat} (hk : k < n) (h1 : fo_enc tk E k p) (h2 : fo_enc tk E p q) : fo_enc tk E k q := by
  obtain ⟨a, b, c⟩ := h1
  obtain ⟨a', b', c'⟩ := h2
  have := fo_lm h (a := q) (p := p) (by omega) (by omega) c'
  exact ⟨by omega, b', by omega⟩
theorem fo_e5 (h : fo_wf tk n E 0) {k : Nat} (hk : k < n) (ar : fo_ar (tk k) ≠ 0) : k + 1 < n ∧ k + 1 < E k := by
  obtain ⟨p1, p2, p3, p4, p5⟩ := h k (Nat.zero_le _) hk
  rcases fo_ar3 (tk k) with e | e | e
  · exact absurd e ar
  · obtain ⟨a1, a2⟩ := p4 e
    have g1 := (h (k + 1) (Nat.zero_le _) a1).1
    omega
  · obtain ⟨a1, a2, a3⟩ := p5 e
    have g1 := (h (k + 1) (Nat.zero_le _) a1).1
    have g2 := (h (E (k + 1)) (Nat.zero_le _) a2).1
    omega
theorem fo_e6 (h : fo_wf tk n E 0) {k : Nat} (hk : k < n) (ar : fo_ar (tk k) = 2) : k + 1 < n ∧ k + 1 < E (k + 1) ∧ E (k + 1) < n ∧ E (k + 1) < E k := by
  obtain ⟨a1, a2, a3⟩ := (h k (Nat.zero_le _) hk).2.2.2.2 ar
  have g1 := (h (k + 1) (Nat.zero_le _) a1).1
  have g2 := (h (E (k + 1)) (Nat.zero_le _) a2).1
  omega
theorem fo_e7 (h : fo_wf tk n E 0) {k p : Nat} (hk : k < n) (he : fo_enc tk E k p) : E k ≤ E p := by
  obtain ⟨a, b, c⟩ := he
  exact fo_lm h (a := p) (p := k) (by omega) (by omega) c
end
/-! depth -/
def fo_dp (tk E : Nat → Nat) (k : Nat) : Nat → Nat
  | 0 => 0
  | j + 1 => fo_dp tk E k j + (if fo_b (tk j) ∧ k < E j then 1 else 0)
def fo_dep (tk E : Nat → Nat) (k : Nat) : Nat := fo_dp tk E k k
def fo_nb (tk : Nat → Nat) : Nat → Nat
  | 0 => 0
  | j + 1 => fo_nb tk j + (if fo_b (tk j) then 1 else 0)
section
variable {tk E : Nat → Nat} {n : Nat}
theorem fo_dps {k j : Nat} : fo_dp tk E k (j + 1) = fo_dp tk E k j + (if fo_b (tk j) ∧ k < E j then 1 else 0) := rfl
theorem fo_nbs {j : Nat} : fo_nb tk (j + 1) = fo_nb tk j + (if fo_b (tk j) then 1 else 0) := rfl
theorem fo_dpc {k k' : Nat} : ∀ j, (∀ b, b < j → fo_b (tk b) → (k < E b ↔ k' < E b)) → fo_dp tk E k j = fo_dp tk E k' j := by
  intro j
  induction j with
  | zero => intro _; rfl
  | succ j ih =>
    intro h
    rw [fo_dps, fo_dps, ih (fun b hb => h b (by omega))]
    by_cases c : fo_b (tk j) ∧ k < E j
    · rw [if_pos c, if_pos ⟨c.1, (h j (by omega) c.1).1 c.2⟩]
    · rw [if_neg c, if_neg (fun z => c ⟨z.1, (h j (by omega) z.1).2 z.2⟩)]
theorem fo_dpt {k j : Nat} : ∀ i, (∀ b, j ≤ b → b < j + i → ¬ (fo_b (tk b) ∧ k < E b)) → fo_dp tk E k (j + i) = fo_dp tk E k j := by
  intro i
  induction i with
  | zero => intro _; rfl
  | succ i ih =>
    intro h
    rw [← Nat.add_assoc, fo_dps, ih (fun b h1 h2 => h b h1 (by omega)), if_neg (h (j + i) (by omega) (by omega)), Nat.add_zero]
theorem fo_dpm {k j : Nat} : ∀ i, fo_dp tk E k j ≤ fo_dp tk E k (j + i) := by
  intro i
  induction i with
  | zero => exact Nat.le_refl _
  | succ i ih =>
    rw [← Nat.add_assoc, fo_dps]
    omega
theorem fo_dpl {k k' : Nat} : ∀ j, (∀ b, b < j → fo_b (tk b) → k < E b → k' < E b) → fo_dp tk E k j ≤ fo_dp tk E k' j := by
  intro j
  induction j with
  | zero => intro _; exact Nat.le_refl _
  | succ j ih =>
    intro h
    have i1 := ih (fun b hb => h b (by omega))
    rw [fo_dps, fo_dps]
    by_cases c : fo_b (tk j) ∧ k < E j
    · rw [if_pos c, if_pos ⟨c.1, h j (by omega) c.1 c.2⟩]
      omega
    · rw [if_neg c]
      omega
theorem fo_dpn {k : Nat} : ∀ j, fo_dp tk E k j ≤ fo_nb tk j := by
  intro j
  induction j with
  | zero => exact Nat.le_refl _
  | succ j ih =>
    rw [fo_dps, fo_nbs]
    by_cases c : fo_b (tk j)
    · rw [if_pos c]
      by_cases c2 : fo_b (tk j) ∧ k < E j
      · rw [if_pos c2]; omega
      · rw [if_neg c2]; omega
    · rw [if_neg (fun z => c z.1)]
      omega
theorem fo_nbm {j : Nat} : ∀ i, fo_nb tk j ≤ fo_nb tk (j + i) := by
  intro i
  induction i with
  | zero => exact Nat.le_refl _
  | succ i ih =>
    rw [← Nat.add_assoc, fo_nbs]
    omega
theorem fo_d1 (h : fo_wf tk n E 0) {k : Nat} (hk : k < n) (ar : fo_ar (tk k) ≠ 0) (hb : ¬ fo_b (tk k)) : fo_dep tk E (k + 1) = fo_dep tk E k := by
  unfold fo_dep
  rw [fo_dps, if_neg (fun z => hb z.1), Nat.add_zero]
  refine fo_dpc k (fun b h1 h2 => ⟨fun z => by omega, fun z => ?_⟩)
  have a := fo_e7 h hk ⟨h1, h2, z⟩
  have c := fo_e5 h hk ar
  omega
theorem fo_d3 (h : fo_wf tk n E 0) {k : Nat} (hk : k < n) (hb : fo_b (tk k)) : fo_dep tk E (k + 1) = fo_dep tk E k + 1 := by
  have ar : fo_ar (tk k) ≠ 0 := by rw [fo_ar1 (by omega) hb.2]; decide
  have c := fo_e5 h hk ar
  unfold fo_dep
  rw [fo_dps, if_pos ⟨hb, c.2⟩]
  congr 1
  refine fo_dpc k (fun b h1 h2 => ⟨fun z => by omega, fun z => ?_⟩)
  have a := fo_e7 h hk ⟨h1, h2, z⟩
  omega
theorem fo_d2 (h : fo_wf tk n E 0) {k : Nat} (hk : k < n) (ar : fo_ar (tk k) = 2) : fo_dep tk E (E (k + 1)) = fo_dep tk E k := by
  obtain ⟨a1, a2, a3, a4⟩ := fo_e6 h hk ar
  have t2 := fo_ar2n ar
  unfold fo_dep
  have e : E (k + 1) = k + (E (k + 1) - k) := by omega
  have e1 : fo_dp tk E (E (k + 1)) (k + (E (k + 1) - k)) = fo_dp tk E (E (k + 1)) k := by
    refine fo_dpt _ (fun b h1 h2 z => ?_)
    rcases Nat.lt_or_ge k b with c | c
    · have := fo_lm h (a := k + 1) (p := b) a1 (by omega) (by omega)
      omega
    · have c2 : b = k := by omega
      subst c2
      have := z.1
      omega
  rw [← e] at e1
  rw [e1]
  refine fo_dpc k (fun b h1 h2 => ⟨fun z => by omega, fun z => ?_⟩)
  have a := fo_e7 h hk ⟨h1, h2, z⟩
  omega
theorem fo_d4 (h : fo_wf tk n E 0) {k p : Nat} (hk : k < n) (he : fo_enc tk E k p) : fo_dep tk E p + 1 ≤ fo_dep tk E k := by
  obtain ⟨a, b, c⟩ := he
  unfold fo_dep
  have e : k = p + 1 + (k - p - 1) := by omega
  have m := fo_dpm (tk := tk) (E := E) (k := k) (j := p + 1) (k - p - 1)
  rw [← e, fo_dps, if_pos ⟨b, c⟩] at m
  have l := fo_dpl (tk := tk) (E := E) (k := p) (k' := k) p (fun q h1 h2 h3 => (fo_e4 h hk ⟨a, b, c⟩ ⟨h1, h2, h3⟩).2.2)
  omega
theorem fo_d5 {k : Nat} (hn : fo_nb tk n ≤ 4) (hk : k < n) (hb : fo_b (tk k)) : fo_dep tk E k ≤ 3 := by
  have a := fo_dpn (tk := tk) (E := E) (k := k) k
  have e : n = k + 1 + (n - k - 1) := by omega
  have m := fo_nbm (tk := tk) (j := k + 1) (n - k - 1)
  rw [← e, fo_nbs, if_pos hb] at m
  unfold fo_dep
  omega
theorem fo_d6 {k : Nat} (hn : fo_nb tk n ≤ 4) (hk : k < n) : fo_dep tk E k ≤ 4 := by
  have a := fo_dpn (tk := tk) (E := E) (k := k) k
  have e : n = k + (n - k) := by omega
  have m := fo_nbm (tk := tk) (j := k) (n - k)
  rw [← e] at m
  unfold fo_dep
  omega
end
end
section
/-! the binder of a name, the caps of the digits, the deepest binder; soundness of a formula -/
abbrev fo_m (tk E : Nat → Nat) (k b : Nat) : Prop := (tk b + 6 = tk k ∨ tk b + 3 = tk k) ∧ k < E b
def fo_fb (tk E : Nat → Nat) (k : Nat) : Nat → Nat
  | 0 => 0
  | j + 1 => if fo_m tk E k j then j + 1 else fo_fb tk E k j
def fo_B (tk E : Nat → Nat) (k : Nat) : Nat := fo_fb tk E k k - 1
def fo_ma (tk E : Nat → Nat) (d : Nat) : Nat → Nat
  | 0 => 0
  | j + 1 => fo_ma tk E d j + (if 10 ≤ tk j ∧ tk j < 13 ∧ fo_dep tk E j = d then 6 else 0)
def fo_dm (tk E : Nat → Nat) : Nat → Nat
  | 0 => 0
  | j + 1 => if fo_b (tk j) then (if fo_dep tk E j + 1 ≤ fo_dm tk E j then fo_dm tk E j else fo_dep tk E j + 1) else fo_dm tk E j
def fo_Sd (tk : Nat → Nat) (n : Nat) (E : Nat → Nat) : Prop :=
  (∀ i, n ≤ i → E i = 0) ∧ fo_wf tk n E 0 ∧ 0 < n ∧ E 0 = n ∧ (∀ i, i < n → 16 ≤ tk i → fo_fb tk E i i ≠ 0) ∧ fo_nb tk n ≤ 4
section
variable {tk E : Nat → Nat} {n : Nat}
theorem fo_fbs {k j : Nat} : fo_fb tk E k (j + 1) = if fo_m tk E k j then j + 1 else fo_fb tk E k j := rfl
theorem fo_mas {d j : Nat} : fo_ma tk E d (j + 1) = fo_ma tk E d j + (if 10 ≤ tk j ∧ tk j < 13 ∧ fo_dep tk E j = d then 6 else 0) := rfl
theorem fo_dms {j : Nat} : fo_dm tk E (j + 1) = if fo_b (tk j) then (if fo_dep tk E j + 1 ≤ fo_dm tk E j then fo_dm tk E j else fo_dep tk E j + 1) else fo_dm tk E j := rfl
theorem fo_fb1 {k : Nat} : ∀ j, fo_fb tk E k j ≠ 0 → fo_fb tk E k j - 1 < j ∧ fo_m tk E k (fo_fb tk E k j - 1) := by
  intro j
  induction j with
  | zero => intro h; exact absurd rfl h
  | succ j ih =>
    intro h
    rw [fo_fbs] at h ⊢
    by_cases c : fo_m tk E k j
    · rw [if_pos c]
      exact ⟨by omega, c⟩
    · rw [if_neg c] at h ⊢
      have := ih h
      exact ⟨by omega, this.2⟩
theorem fo_fbl {k : Nat} : ∀ j, fo_fb tk E k j ≤ j := by
  intro j
  induction j with
  | zero => exact Nat.le_refl _
  | succ j ih =>
    rw [fo_fbs]
    by_cases c : fo_m tk E k j
    · rw [if_pos c]; exact Nat.le_refl _
    · rw [if_neg c]; omega
theorem fo_Be {k : Nat} (h : fo_fb tk E k k ≠ 0) (h16 : 16 ≤ tk k) (h18 : tk k ≤ 18) : fo_enc tk E k (fo_B tk E k) := by
  obtain ⟨a, b, c⟩ := fo_fb1 k h
  exact ⟨a, by show fo_b (tk (fo_fb tk E k k - 1)); omega, c⟩
theorem fo_mal {d : Nat} : ∀ j, fo_ma tk E d j ≤ 6 * fo_nb tk j := by
  intro j
  induction j with
  | zero => exact Nat.le_refl _
  | succ j ih =>
    rw [fo_mas, fo_nbs]
    by_cases c : 10 ≤ tk j ∧ tk j < 13 ∧ fo_dep tk E j = d
    · rw [if_pos c, if_pos (by omega : fo_b (tk j))]; omega
    · rw [if_neg c]; omega
theorem fo_mam {d j : Nat} : ∀ i, fo_ma tk E d j ≤ fo_ma tk E d (j + i) := by
  intro i
  induction i with
  | zero => exact Nat.le_refl _
  | succ i ih => rw [← Nat.add_assoc, fo_mas]; omega
theorem fo_ma6 {k : Nat} (hk : k < n) (h1 : 10 ≤ tk k) (h2 : tk k < 13) : 6 ≤ fo_ma tk E (fo_dep tk E k) n := by
  have e : n = k + 1 + (n - k - 1) := by omega
  have m := fo_mam (tk := tk) (E := E) (d := fo_dep tk E k) (j := k + 1) (n - k - 1)
  rw [← e, fo_mas, if_pos ⟨h1, h2, rfl⟩] at m
  omega
theorem fo_Su {E' : Nat → Nat} (h : fo_Sd tk n E) (h' : fo_Sd tk n E') : E = E' := by
  funext i
  rcases Nat.lt_or_ge i n with c | c
  · exact fo_uq h.2.1 h'.2.1 _ i (Nat.le_refl _) (Nat.zero_le _) c
  · rw [h.1 i c, h'.1 i c]
end
/-! the semantics: V gives the sets of the enclosing binders -/
def se_uv (V : Nat → Nat → Bool) (k : Nat) (S : Nat → Bool) : Nat → Nat → Bool := fun j => if j = k then S else V j
theorem se_us {V : Nat → Nat → Bool} {k : Nat} {S : Nat → Bool} : se_uv V k S k = S := if_pos rfl
theorem se_un {V : Nat → Nat → Bool} {k j : Nat} {S : Nat → Bool} (h : j ≠ k) : se_uv V k S j = V j := if_neg h
def se_ex (g : Nat → Bool) : Bool := g 0 || g 1 || g 2 || g 3 || g 4 || g 5
def se_al (g : Nat → Bool) : Bool := g 0 && g 1 && g 2 && g 3 && g 4 && g 5
theorem se_exI {g : Nat → Bool} : se_ex g = true ↔ ∃ j, j < 6 ∧ g j = true := by
  unfold se_ex
  simp only [Bool.or_eq_true]
  constructor
  · rintro (((((h | h) | h) | h) | h) | h)
    · exact ⟨0, by decide, h⟩
    · exact ⟨1, by decide, h⟩
    · exact ⟨2, by decide, h⟩
    · exact ⟨3, by decide, h⟩
    · exact ⟨4, by decide, h⟩
    · exact ⟨5, by decide, h⟩
  · rintro ⟨j, hj, h⟩
    rcases ms_s6 hj with rfl | rfl | rfl | rfl | rfl | rfl <;> simp only [h, true_or, or_true]
theorem se_alI {g : Nat → Bool} : se_al g = true ↔ ∀ j, j < 6 → g j = true := by
  unfold se_al
  simp only [Bool.and_eq_true]
  constructor
  · rintro ⟨⟨⟨⟨⟨h0, h1⟩, h2⟩, h3⟩, h4⟩, h5⟩ j hj
    rcases ms_s6 hj with rfl | rfl | rfl | rfl | rfl | rfl
    · exact h0
    · exact h1
    · exact h2
    · exact h3
    · exact h4
    · exact h5
  · intro h
    exact ⟨⟨⟨⟨⟨h 0 (by decide), h 1 (by decide)⟩, h 2 (by decide)⟩, h 3 (by decide)⟩, h 4 (by decide)⟩, h 5 (by decide)⟩
def se_step (tk E : Nat → Nat) (st mk : Nat → Nat → Bool) (f : Nat → (Nat → Nat → Bool) → Nat → Bool) (k : Nat) (V : Nat → Nat → Bool) : Nat → Bool :=
  if tk k < 3 then mk (tk k)
  else if tk k < 6 then fun s => !mk (tk k - 3) s
  else if tk k = 6 then fun s => f (k + 1) V s && f (E (k + 1)) V s
  else if tk k = 7 then fun s => f (k + 1) V s || f (E (k + 1)) V s
  else if tk k = 8 then fun s => se_ex (fun j => st s j && f (k + 1) V j)
  else if tk k = 9 then fun s => se_al (fun j => !st s j || f (k + 1) V j)
  else if tk k < 13 then ms_lf (fun S => f (k + 1) (se_uv V k S))
  else if tk k < 16 then ms_gf (fun S => f (k + 1) (se_uv V k S))
  else V (fo_B tk E k)
def se_m (tk E : Nat → Nat) (n : Nat) (st mk : Nat → Nat → Bool) (k : Nat) (V : Nat → Nat → Bool) : Nat → Bool :=
  fx_v (fun _ _ => false) (fun f k => se_step tk E st mk f k) n k V
theorem se_loc {tk E : Nat → Nat} {n : Nat} {st mk : Nat → Nat → Bool} (h : fo_wf tk n E 0) : fx_loc (fun f k => se_step tk E st mk f k) n := by
  intro k hk f g hfg
  have e5 := fun ar => fo_e5 h hk ar
  have e6 := fun ar => fo_e6 h hk ar
  funext V
  show se_step tk E st mk f k V = se_step tk E st mk g k V
  unfold se_step
  by_cases c1 : tk k < 3
  · rw [if_pos c1, if_pos c1]
  rw [if_neg c1, if_neg c1]
  by_cases c2 : tk k < 6
  · rw [if_pos c2, if_pos c2]
  rw [if_neg c2, if_neg c2]
  by_cases c3 : tk k = 6
  · have q := e6 (fo_ar2 (Or.inl c3))
    rw [if_pos c3, if_pos c3, hfg (k + 1) (by omega) q.1, hfg (E (k + 1)) (by omega) q.2.2.1]
  rw [if_neg c3, if_neg c3]
  by_cases c4 : tk k = 7
  · have q := e6 (fo_ar2 (Or.inr c4))
    rw [if_pos c4, if_pos c4, hfg (k + 1) (by omega) q.1, hfg (E (k + 1)) (by omega) q.2.2.1]
  rw [if_neg c4, if_neg c4]
  by_cases c9 : 16 ≤ tk k
  · rw [if_neg (by omega), if_neg (by omega), if_neg (by omega), if_neg (by omega), if_neg (by omega), if_neg (by omega), if_neg (by omega), if_neg (by omega)]
  have q := e5 (by rw [fo_ar1 (by omega) (by omega)]; decide)
  rw [hfg (k + 1) (by omega) q.1]
section
variable {tk E : Nat → Nat} {n : Nat} {st mk : Nat → Nat → Bool}
theorem se_eq (h : fo_wf tk n E 0) {k : Nat} (hk : k < n) : se_m tk E n st mk k = se_step tk E st mk (se_m tk E n st mk) k := fx_eq (se_loc h) hk
theorem se_1 (h : fo_wf tk n E 0) {k : Nat} (hk : k < n) (t : tk k < 3) {V : Nat → Nat → Bool} : se_m tk E n st mk k V = mk (tk k) := by
  rw [se_eq h hk]; unfold se_step; rw [if_pos t]
theorem se_2 (h : fo_wf tk n E 0) {k : Nat} (hk : k < n) (t1 : 3 ≤ tk k) (t : tk k < 6) {V : Nat → Nat → Bool} : se_m tk E n st mk k V = fun s => !mk (tk k - 3) s := by
  rw [se_eq h hk]; unfold se_step; rw [if_neg (by omega), if_pos t]
theorem se_3 (h : fo_wf tk n E 0) {k : Nat} (hk : k < n) (t : tk k = 6) {V : Nat → Nat → Bool} : se_m tk E n st mk k V = fun s => se_m tk E n st mk (k + 1) V s && se_m tk E n st mk (E (k + 1)) V s := by
  rw [se_eq h hk]; unfold se_step; rw [if_neg (by omega), if_neg (by omega), if_pos t]
theorem se_4 (h : fo_wf tk n E 0) {k : Nat} (hk : k < n) (t : tk k = 7) {V : Nat → Nat → Bool} : se_m tk E n st mk k V = fun s => se_m tk E n st mk (k + 1) V s || se_m tk E n st mk (E (k + 1)) V s := by
  rw [se_eq h hk]; unfold se_step; rw [if_neg (by omega), if_neg (by omega), if_neg (by omega), if_pos t]
theorem se_5 (h : fo_wf tk n E 0) {k : Nat} (hk : k < n) (t : tk k = 8) {V : Nat → Nat → Bool} : se_m tk E n st mk k V = fun s => se_ex (fun j => st s j && se_m tk E n st mk (k + 1) V j) := by
  rw [se_eq h hk]; unfold se_step; rw [if_neg (by omega), if_neg (by omega), if_neg (by omega), if_neg (by omega), if_pos t]
theorem se_6 (h : fo_wf tk n E 0) {k : Nat} (hk : k < n) (t : tk k = 9) {V : Nat → Nat → Bool} : se_m tk E n st mk k V = fun s => se_al (fun j => !st s j || se_m tk E n st mk (k + 1) V j) := by
  rw [se_eq h hk]; unfold se_step; rw [if_neg (by omega), if_neg (by omega), if_neg (by omega), if_neg (by omega), if_neg (by omega), if_pos t]
theorem se_7 (h : fo_wf tk n E 0) {k : Nat} (hk : k < n) (t1 : 10 ≤ tk k) (t : tk k < 13) {V : Nat → Nat → Bool} : se_m tk E n st mk k V = ms_lf (fun S => se_m tk E n st mk (k + 1) (se_uv V k S)) := by
  rw [se_eq h hk]; unfold se_step; rw [if_neg (by omega), if_neg (by omega), if_neg (by omega), if_neg (by omega), if_neg (by omega), if_neg (by omega), if_pos t]
theorem se_8 (h : fo_wf tk n E 0) {k : Nat} (hk : k < n) (t1 : 13 ≤ tk k) (t : tk k < 16) {V : Nat → Nat → Bool} : se_m tk E n st mk k V = ms_gf (fun S => se_m tk E n st mk (k + 1) (se_uv V k S)) := by
  rw [se_eq h hk]; unfold se_step; rw [if_neg (by omega), if_neg (by omega), if_neg (by omega), if_neg (by omega), if_neg (by omega), if_neg (by omega), if_neg (by omega), if_pos t]
theorem se_9 (h : fo_wf tk n E 0) {k : Nat} (hk : k < n) (t1 : 16 ≤ tk k) {V : Nat → Nat → Bool} : se_m tk E n st mk k V = V (fo_B tk E k) := by
  rw [se_eq h hk]; unfold se_step; rw [if_neg (by omega), if_neg (by omega), if_neg (by omega), if_neg (by omega), if_neg (by omega), if_neg (by omega), if_neg (by omega), if_neg (by omega)]
theorem se_tk {t : Nat} (P : Prop) (h1 : t < 3 → P) (h2 : 3 ≤ t → t < 6 → P) (h3 : t = 6 → P) (h4 : t = 7 → P) (h5 : t = 8 → P) (h6 : t = 9 → P) (h7 : 10 ≤ t → t < 13 → P) (h8 : 13 ≤ t → t < 16 → P) (h9 : 16 ≤ t → P) : P := by
  rcases (by omega : t < 3 ∨ (3 ≤ t ∧ t < 6) ∨ t = 6 ∨ t = 7 ∨ t = 8 ∨ t = 9 ∨ (10 ≤ t ∧ t < 13) ∨ (13 ≤ t ∧ t < 16) ∨ 16 ≤ t) with h | h | h | h | h | h | h | h | h
  · exact h1 h
  · exact h2 h.1 h.2
  · exact h3 h
  · exact h4 h
  · exact h5 h
  · exact h6 h
  · exact h7 h.1 h.2
  · exact h8 h.1 h.2
  · exact h9 h
/-- monotone, and only the enclosing binders count -/
theorem se_mo (h : fo_wf tk n E 0) (hb : ∀ i, i < n → 16 ≤ tk i → fo_enc tk E i (fo_B tk E i)) : ∀ d k, n - k ≤ d → k < n → ∀ V W : Nat → Nat → Bool, (∀ p, fo_enc tk E k p → ms_le (V p) (W p)) → ms_le (se_m tk E n st mk k V) (se_m tk E n st mk k W) := by
  intro d
  induction d with
  | zero => intro k h1 h2; omega
  | succ d ih =>
    intro k h1 hk V W hV
    have c1 : fo_ar (tk k) ≠ 0 → ¬ fo_b (tk k) → ms_le (se_m tk E n st mk (k + 1) V) (se_m tk E n st mk (k + 1) W) := by
      intro ar nb
      exact ih (k + 1) (by omega) (fo_e5 h hk ar).1 V W (fun p hp => hV p (fo_e1 nb hp))
    have c2 : fo_ar (tk k) = 2 → ms_le (se_m tk E n st mk (E (k + 1)) V) (se_m tk E n st mk (E (k + 1)) W) := by
      intro ar
      have q := fo_e6 h hk ar
      exact ih (E (k + 1)) (by omega) q.2.2.1 V W (fun p hp => hV p (fo_e2 h hk ar hp))
    have c3 : fo_b (tk k) → ∀ S T, ms_le S T → ms_le (se_m tk E n st mk (k + 1) (se_uv V k S)) (se_m tk E n st mk (k + 1) (se_uv W k T)) := by
      intro nb S T hST
      refine ih (k + 1) (by omega) (fo_e5 h hk (by rw [fo_ar1 (by omega) nb.2]; decide)).1 _ _ (fun p hp => ?_)
      rcases fo_e3 hp with e | e
      · subst e; rw [se_us, se_us]; exact hST
      · have ne : p ≠ k := Nat.ne_of_lt e.1
        rw [se_un ne, se_un ne]; exact hV p e
    refine se_tk (t := tk k) _ ?_ ?_ ?_ ?_ ?_ ?_ ?_ ?_ ?_
    · intro t
      rw [se_1 h hk t, se_1 h hk t]; exact ms_rf _
    · intro t1 t
      rw [se_2 h hk t1 t, se_2 h hk t1 t]; exact ms_rf _
    · intro t
      have ar := fo_ar2 (Or.inl t)
      have a := c1 (by omega) (by omega)
      have b := c2 ar
      rw [se_3 h hk t, se_3 h hk t]
      intro s hs z
      simp only [Bool.and_eq_true] at z ⊢
      exact ⟨a s hs z.1, b s hs z.2⟩
    · intro t
      have ar := fo_ar2 (Or.inr t)
      have a := c1 (by omega) (by omega)
      have b := c2 ar
      rw [se_4 h hk t, se_4 h hk t]
      intro s hs z
      simp only [Bool.or_eq_true] at z ⊢
      exact z.imp (a s hs) (b s hs)
    · intro t
      have ar := fo_ar1 (t := tk k) (by omega) (by omega)
      have a := c1 (by omega) (by omega)
      rw [se_5 h hk t, se_5 h hk t]
      intro s hs z
      rw [se_exI] at z ⊢
      obtain ⟨j, hj, z⟩ := z
      refine ⟨j, hj, ?_⟩
      simp only [Bool.and_eq_true] at z ⊢
      exact ⟨z.1, a j hj z.2⟩
    · intro t
      have ar := fo_ar1 (t := tk k) (by omega) (by omega)
      have a := c1 (by omega) (by omega)
      rw [se_6 h hk t, se_6 h hk t]
      intro s hs z
      rw [se_alI] at z ⊢
      intro j hj
      have z := z j hj
      simp only [Bool.or_eq_true] at z ⊢
      exact z.imp id (a j hj)
    · intro t1 t
      rw [se_7 h hk t1 t, se_7 h hk t1 t]
      exact ms_itm (c3 (by omega)) (ms_rf _) 6
    · intro t1 t
      rw [se_8 h hk t1 t, se_8 h hk t1 t]
      exact ms_itm (c3 (by omega)) (ms_rf _) 6
    · intro t
      rw [se_9 h hk t, se_9 h hk t]
      exact hV _ (hb k hk t)
/-- the body of binder p as an operator -/
def se_F (tk E : Nat → Nat) (n : Nat) (st mk : Nat → Nat → Bool) (V : Nat → Nat → Bool) (p : Nat) : (Nat → Bool) → Nat → Bool := fun S => se_m tk E n st mk (p + 1) (se_uv V p S)
theorem se_mn (h : fo_wf tk n E 0) (hb : ∀ i, i < n → 16 ≤ tk i → fo_enc tk E i (fo_B tk E i)) {k : Nat} (hk : k < n) {V W : Nat → Nat → Bool} (hV : ∀ p, fo_enc tk E k p → ms_le (V p) (W p)) : ms_le (se_m tk E n st mk k V) (se_m tk E n st mk k W) := se_mo h hb _ k (Nat.le_refl _) hk V W hV
theorem se_Fm (h : fo_wf tk n E 0) (hb : ∀ i, i < n → 16 ≤ tk i → fo_enc tk E i (fo_B tk E i)) {p : Nat} (hp : p < n) (hbp : fo_b (tk p)) {V W : Nat → Nat → Bool} (hV : ∀ q, fo_enc tk E p q → ms_le (V q) (W q)) : ∀ S T, ms_le S T → ms_le (se_F tk E n st mk V p S) (se_F tk E n st mk W p T) := by
  intro S T hST
  refine se_mn h hb (fo_e5 h hp (by rw [fo_ar1 (by omega) hbp.2]; decide)).1 (fun q hq => ?_)
  rcases fo_e3 hq with e | e
  · subst e; rw [se_us, se_us]; exact hST
  · have ne : q ≠ p := Nat.ne_of_lt e.1
    rw [se_un ne, se_un ne]; exact hV q e
end
end
section
/-! measures: four digits base 25; me_p d is the weight of what stands behind the first d digits -/
def me_p : Nat → Nat
  | 0 => 390625
  | 1 => 15625
  | 2 => 625
  | 3 => 25
  | _ + 4 => 1
theorem me_pc {d : Nat} (h : d ≤ 3) : (me_p d = 390625 ∧ me_p (d + 1) = 15625) ∨ (me_p d = 15625 ∧ me_p (d + 1) = 625) ∨ (me_p d = 625 ∧ me_p (d + 1) = 25) ∨ (me_p d = 25 ∧ me_p (d + 1) = 1) := by
  rcases (by omega : d = 0 ∨ d = 1 ∨ d = 2 ∨ d = 3) with rfl | rfl | rfl | rfl
  · exact Or.inl ⟨rfl, rfl⟩
  · exact Or.inr (Or.inl ⟨rfl, rfl⟩)
  · exact Or.inr (Or.inr (Or.inl ⟨rfl, rfl⟩))
  · exact Or.inr (Or.inr (Or.inr ⟨rfl, rfl⟩))
theorem me_p1 {d : Nat} (h : d ≤ 3) : me_p d = me_p (d + 1) * 25 := by
  rcases me_pc h with e | e | e | e <;> rw [e.1, e.2]
theorem me_tm1 {d x y : Nat} (h : d ≤ 3) (hxy : x / me_p (d + 1) ≤ y / me_p (d + 1)) : x / me_p d ≤ y / me_p d := by
  rw [me_p1 h, ← Nat.div_div_eq_div_mul, ← Nat.div_div_eq_div_mul]
  exact Nat.div_le_div_right hxy
theorem me_tm {x y : Nat} : ∀ i a, a + i ≤ 4 → x / me_p (a + i) ≤ y / me_p (a + i) → x / me_p a ≤ y / me_p a := by
  intro i
  induction i with
  | zero => intro a _ h; exact h
  | succ i ih =>
    intro a ha h
    exact ih a (by omega) (me_tm1 (by omega) (by rw [Nat.add_assoc]; exact h))
theorem me_tmb {x y a b : Nat} (hab : a ≤ b) (hb : b ≤ 4) (h : x / me_p b ≤ y / me_p b) : x / me_p a ≤ y / me_p a := by
  have e : b = a + (b - a) := by omega
  rw [e] at h
  exact me_tm (b - a) a (by omega) h
def me_P (g : Nat → Nat) : Nat → Nat
  | 0 => 0
  | d + 1 => 25 * me_P g d + g d
theorem me_Ps {g : Nat → Nat} {d : Nat} : me_P g (d + 1) = 25 * me_P g d + g d := rfl
theorem me_Pc {g g' : Nat → Nat} : ∀ d, (∀ i, i < d → g i = g' i) → me_P g d = me_P g' d := by
  intro d
  induction d with
  | zero => intro _; rfl
  | succ d ih =>
    intro h
    rw [me_Ps, me_Ps, ih (fun i hi => h i (by omega)), h d (by omega)]
theorem me_PP {g : Nat → Nat} {x : Nat} : ∀ i a, a + i ≤ 4 → x ≤ me_P g a * me_p a → x / me_p (a + i) ≤ me_P g (a + i) := by
  intro i
  induction i with
  | zero =>
    intro a ha h
    have hp : 0 < me_p a := by
      rcases (by omega : a = 0 ∨ a = 1 ∨ a = 2 ∨ a = 3 ∨ a = 4) with rfl | rfl | rfl | rfl | rfl <;> decide
    show x / me_p a ≤ me_P g a
    exact Nat.div_le_of_le_mul (by rw [Nat.mul_comm]; exact h)
  | succ i ih =>
    intro a ha h
    have e : a + (i + 1) = (a + 1) + i := by omega
    rw [e]
    refine ih (a + 1) (by omega) (Nat.le_trans h ?_)
    rw [me_p1 (by omega : a ≤ 3), me_Ps, ← Nat.mul_assoc, Nat.mul_right_comm]
    exact Nat.mul_le_mul_right _ (by omega)
/-- all four digits within their caps -/
def me_v (c : Nat → Nat) (w : Nat) : Prop := w < 390625 ∧ w / 15625 ≤ c 0 ∧ w / 625 % 25 ≤ c 1 ∧ w / 25 % 25 ≤ c 2 ∧ w % 25 ≤ c 3
def me_ok (c : Nat → Nat) (x : Nat) : Prop := x = 1000000 ∨ me_v c x
theorem me_okl {c : Nat → Nat} {x : Nat} (h : me_ok c x) (hx : x ≠ 1000000) : x < 390625 := by
  rcases h with h | h
  · exact absurd h hx
  · exact h.1
theorem me_okL {c : Nat → Nat} {x : Nat} (h : me_ok c x) : x ≤ 1000000 := by
  rcases h with h | h
  · omega
  · have := h.1
    omega
theorem me_wv {c g : Nat → Nat} (hc : ∀ i, c i ≤ 24) (hg : ∀ i, g i ≤ c i) {d j : Nat} (hd : d ≤ 3) (hj : j ≤ c d) : me_v c ((25 * me_P g d + j) * me_p (d + 1)) := by
  have c0 := hc 0
  have c1 := hc 1
  have c2 := hc 2
  have c3 := hc 3
  have g0 := hg 0
  have g1 := hg 1
  have g2 := hg 2
  rcases (by omega : d = 0 ∨ d = 1 ∨ d = 2 ∨ d = 3) with rfl | rfl | rfl | rfl
  · show me_v c ((25 * 0 + j) * 15625)
    refine ⟨?_, ?_, ?_, ?_, ?_⟩ <;> omega
  · show me_v c ((25 * (25 * 0 + g 0) + j) * 625)
    refine ⟨?_, ?_, ?_, ?_, ?_⟩ <;> omega
  · show me_v c ((25 * (25 * (25 * 0 + g 0) + g 1) + j) * 25)
    refine ⟨?_, ?_, ?_, ?_, ?_⟩ <;> omega
  · show me_v c ((25 * (25 * (25 * (25 * 0 + g 0) + g 1) + g 2) + j) * 1)
    refine ⟨?_, ?_, ?_, ?_, ?_⟩ <;> omega
theorem me_tv {c : Nat → Nat} {d m : Nat} (hd : d ≤ 3) (h : me_v c m) : me_v c (m / me_p d * me_p d) := by
  obtain ⟨h1, h2, h3, h4, h5⟩ := h
  rcases (by omega : d = 0 ∨ d = 1 ∨ d = 2 ∨ d = 3) with rfl | rfl | rfl | rfl
  · show me_v c (m / 390625 * 390625)
    refine ⟨?_, ?_, ?_, ?_, ?_⟩ <;> omega
  · show me_v c (m / 15625 * 15625)
    refine ⟨?_, ?_, ?_, ?_, ?_⟩ <;> omega
  · show me_v c (m / 625 * 625)
    refine ⟨?_, ?_, ?_, ?_, ?_⟩ <;> omega
  · show me_v c (m / 25 * 25)
    refine ⟨?_, ?_, ?_, ?_, ?_⟩ <;> omega
/-- what 'before' gives at a binder t of depth d behind measure m -/
def me_bf (c : Nat → Nat) (d t m r : Nat) : Prop :=
  (m = 1000000 ∧ r = 1000000) ∨ (me_v c m ∧ 13 ≤ t ∧ r = m / me_p d * me_p d) ∨
  (me_v c m ∧ t < 13 ∧ me_ok c r ∧ (r ≠ 1000000 → m / me_p (d + 1) < r / me_p (d + 1)) ∧ (∀ w, me_v c w → m / me_p (d + 1) < w / me_p (d + 1) → r ≤ w))
def me_c (tk E : Nat → Nat) (n : Nat) : Nat → Nat := fun d => fo_ma tk E d n
def me_e (st : Nat → Nat → Bool) (m : Nat → Nat) (s k r : Nat) : Prop := ∃ j, j < 6 ∧ st s j = true ∧ r = m (12 * j + (k + 1))
/-- what 'demanded' gives at state s and token k -/
def me_ds (tk E : Nat → Nat) (n : Nat) (st mk : Nat → Nat → Bool) (m : Nat → Nat) (s k r : Nat) : Prop :=
  (tk k < 3 → r = if mk (tk k) s = true then 0 else 1000000) ∧
  (3 ≤ tk k → tk k < 6 → r = if mk (tk k - 3) s = true then 1000000 else 0) ∧
  (tk k = 6 → m (12 * s + (k + 1)) ≤ r ∧ m (12 * s + E (k + 1)) ≤ r ∧ (r = m (12 * s + (k + 1)) ∨ r = m (12 * s + E (k + 1)))) ∧
  (tk k = 7 → r ≤ m (12 * s + (k + 1)) ∧ r ≤ m (12 * s + E (k + 1)) ∧ (r = m (12 * s + (k + 1)) ∨ r = m (12 * s + E (k + 1)))) ∧
  (tk k = 8 → (r = 1000000 ∨ me_e st m s k r) ∧ (∀ j, j < 6 → st s j = true → r ≤ m (12 * j + (k + 1)))) ∧
  (tk k = 9 → (r = 0 ∨ me_e st m s k r) ∧ (∀ j, j < 6 → st s j = true → m (12 * j + (k + 1)) ≤ r)) ∧
  (fo_b (tk k) → me_bf (me_c tk E n) (fo_dep tk E k) (tk k) (m (12 * s + (k + 1))) r) ∧
  (16 ≤ tk k → r = m (12 * s + fo_B tk E k))
def me_H (tk E : Nat → Nat) (n : Nat) : Prop := fo_wf tk n E 0 ∧ (∀ i, i < n → 16 ≤ tk i → fo_enc tk E i (fo_B tk E i)) ∧ fo_nb tk n ≤ 4 ∧ n ≤ 12
theorem me_HS {tk E : Nat → Nat} {n : Nat} (h : fo_Sd tk n E) (h18 : ∀ i, tk i ≤ 18) (hn : n ≤ 12) : me_H tk E n :=
  ⟨h.2.1, fun i hi h16 => fo_Be (h.2.2.2.2.1 i hi h16) h16 (h18 i), h.2.2.2.2.2, hn⟩
theorem me_c24 {tk E : Nat → Nat} {n : Nat} (H : me_H tk E n) : ∀ i, me_c tk E n i ≤ 24 := by
  intro i
  have a := fo_mal (tk := tk) (E := E) (d := i) n
  have b := H.2.2.1
  unfold me_c
  omega
section
variable {tk E : Nat → Nat} {n : Nat} {st mk : Nat → Nat → Bool}
theorem me_dsok (H : me_H tk E n) {m : Nat → Nat} (hm : ∀ i, i < 72 → me_ok (me_c tk E n) (m i)) {s k r : Nat} (hs : s < 6) (hk : k < n) (hd : me_ds tk E n st mk m s k r) : me_ok (me_c tk E n) r := by
  obtain ⟨h, hb, hn, h12⟩ := H
  obtain ⟨d1, d2, d3, d4, d5, d6, d7, d8⟩ := hd
  have z : me_ok (me_c tk E n) 0 := Or.inr ⟨by decide, Nat.zero_le _, Nat.zero_le _, Nat.zero_le _, Nat.zero_le _⟩
  have l : me_ok (me_c tk E n) 1000000 := Or.inl rfl
  refine se_tk (t := tk k) _ ?_ ?_ ?_ ?_ ?_ ?_ ?_ ?_ ?_
  · intro t
    rw [d1 t]
    by_cases c : mk (tk k) s = true
    · rw [if_pos c]; exact z
    · rw [if_neg c]; exact l
  · intro t1 t
    rw [d2 t1 t]
    by_cases c : mk (tk k - 3) s = true
    · rw [if_pos c]; exact l
    · rw [if_neg c]; exact z
  · intro t
    have q := fo_e6 h hk (fo_ar2 (Or.inl t))
    rcases (d3 t).2.2 with e | e
    · rw [e]; exact hm _ (by omega)
    · rw [e]; exact hm _ (by omega)
  · intro t
    have q := fo_e6 h hk (fo_ar2 (Or.inr t))
    rcases (d4 t).2.2 with e | e
    · rw [e]; exact hm _ (by omega)
    · rw [e]; exact hm _ (by omega)
  · intro t
    have q := fo_e5 h hk (by rw [fo_ar1 (by omega) (by omega)]; decide)
    rcases (d5 t).1 with e | ⟨j, hj, _, e⟩
    · rw [e]; exact l
    · rw [e]; exact hm _ (by omega)
  · intro t
    have q := fo_e5 h hk (by rw [fo_ar1 (by omega) (by omega)]; decide)
    rcases (d6 t).1 with e | ⟨j, hj, _, e⟩
    · rw [e]; exact z
    · rw [e]; exact hm _ (by omega)
  · intro t1 t
    rcases d7 (by omega) with e | e | e
    · rw [e.2]; exact l
    · omega
    · exact e.2.2.1
  · intro t1 t
    rcases d7 (by omega) with e | e | e
    · rw [e.2]; exact l
    · rw [e.2.2]; exact Or.inr (me_tv (fo_d5 hn hk (by omega)) e.1)
    · omega
  · intro t
    have q := (hb k hk t).1
    rw [d8 t]
    exact hm _ (by omega)
end
end
section
/-! completeness: an invariant of the rounds. V lies below the approximants that the digits g name -/
def me_cons (tk E : Nat → Nat) (n : Nat) (st mk : Nat → Nat → Bool) (V : Nat → Nat → Bool) (g : Nat → Nat) (k : Nat) : Prop :=
  (∀ i, g i ≤ me_c tk E n i) ∧ ∀ p, fo_enc tk E k p →
    (tk p < 13 → g (fo_dep tk E p) ≤ 6 ∧ ms_le (V p) (ms_it (se_F tk E n st mk V p) ms_e (g (fo_dep tk E p)))) ∧
    (13 ≤ tk p → g (fo_dep tk E p) = 0 ∧ ms_le (V p) (ms_gf (se_F tk E n st mk V p)))
def me_A (tk E : Nat → Nat) (n : Nat) (st mk : Nat → Nat → Bool) (x s k : Nat) : Prop :=
  ∀ V g, me_cons tk E n st mk V g k → se_m tk E n st mk k V s = true → x ≠ 1000000 ∧ x / me_p (fo_dep tk E k) ≤ me_P g (fo_dep tk E k)
def me_B (tk E : Nat → Nat) (n : Nat) (st mk : Nat → Nat → Bool) (x s k : Nat) : Prop :=
  ∀ V g, me_cons tk E n st mk V g k →
    (tk k < 13 → ∀ j, j ≤ 6 → ms_it (se_F tk E n st mk V k) ms_e j s = true → x ≠ 1000000 ∧ x ≤ (25 * me_P g (fo_dep tk E k) + j) * me_p (fo_dep tk E k + 1)) ∧
    (13 ≤ tk k → ms_gf (se_F tk E n st mk V k) s = true → x ≠ 1000000 ∧ x ≤ me_P g (fo_dep tk E k) * me_p (fo_dep tk E k))
def me_AB (tk E : Nat → Nat) (n : Nat) (st mk : Nat → Nat → Bool) (x s k : Nat) : Prop := (fo_b (tk k) → me_B tk E n st mk x s k) ∧ (¬ fo_b (tk k) → me_A tk E n st mk x s k)
def me_I (tk E : Nat → Nat) (n : Nat) (st mk : Nat → Nat → Bool) (m : Nat → Nat) : Prop := ∀ s k, s < 6 → k < n → me_AB tk E n st mk (m (12 * s + k)) s k
def me_ug (g : Nat → Nat) (d x : Nat) : Nat → Nat := fun i => if i = d then x else g i
theorem se_uu {V : Nat → Nat → Bool} {k : Nat} {S T : Nat → Bool} : se_uv (se_uv V k S) k T = se_uv V k T := by
  funext j
  by_cases c : j = k
  · subst c; rw [se_us, se_us]
  · rw [se_un c, se_un c, se_un c]
section
variable {tk E : Nat → Nat} {n : Nat} {st mk : Nat → Nat → Bool}
theorem me_ce1 {V : Nat → Nat → Bool} {g : Nat → Nat} {k k' : Nat} (hc : me_cons tk E n st mk V g k) (he : ∀ p, fo_enc tk E k' p → fo_enc tk E k p) : me_cons tk E n st mk V g k' := ⟨hc.1, fun p hp => hc.2 p (he p hp)⟩
theorem me_cext (H : me_H tk E n) {V : Nat → Nat → Bool} {g : Nat → Nat} {k : Nat} (hc : me_cons tk E n st mk V g k) (hk : k < n) (hbk : fo_b (tk k)) {X : Nat → Bool} {x : Nat} (hx : x ≤ me_c tk E n (fo_dep tk E k))
    (h1 : tk k < 13 → x ≤ 6 ∧ ms_le X (ms_it (se_F tk E n st mk V k) ms_e x)) (h2 : 13 ≤ tk k → x = 0 ∧ ms_le X (ms_gf (se_F tk E n st mk V k))) :
    me_cons tk E n st mk (se_uv V k X) (me_ug g (fo_dep tk E k) x) (k + 1) := by
  obtain ⟨h, hb, hn, h12⟩ := H
  refine ⟨fun i => ?_, fun p hp => ?_⟩
  · unfold me_ug
    by_cases c : i = fo_dep tk E k
    · rw [if_pos c, c]; exact hx
    · rw [if_neg c]; exact hc.1 i
  · rcases fo_e3 hp with e | e
    · subst e
      have eF : se_F tk E n st mk (se_uv V p X) p = se_F tk E n st mk V p := by
        funext S
        unfold se_F
        rw [se_uu]
      have eg : me_ug g (fo_dep tk E p) x (fo_dep tk E p) = x := if_pos rfl
      rw [eF, eg, se_us]
      exact ⟨h1, h2⟩
    · have ne : p ≠ k := Nat.ne_of_lt e.1
      have dl := fo_d4 h hk e
      have eg : me_ug g (fo_dep tk E k) x (fo_dep tk E p) = g (fo_dep tk E p) := if_neg (by omega)
      have hm : ∀ S T, ms_le S T → ms_le (se_F tk E n st mk V p S) (se_F tk E n st mk (se_uv V k X) p T) := by
        refine se_Fm h hb (Nat.lt_trans e.1 hk) e.2.1 (fun q hq => ?_)
        have nq : q ≠ k := by
          have := hq.1
          have := e.1
          omega
        rw [se_un nq]
        exact ms_rf _
      rw [eg, se_un ne]
      refine ⟨fun t => ?_, fun t => ?_⟩
      · obtain ⟨a, b⟩ := (hc.2 p e).1 t
        exact ⟨a, ms_tr b (ms_itm hm (ms_rf _) _)⟩
      · obtain ⟨a, b⟩ := (hc.2 p e).2 t
        exact ⟨a, ms_tr b (ms_itm hm (ms_rf _) _)⟩
theorem me_BA (H : me_H tk E n) {x s k : Nat} (hk : k < n) (hx : me_AB tk E n st mk x s k) : me_A tk E n st mk x s k := by
  by_cases c : fo_b (tk k)
  · obtain ⟨h, hb, hn, h12⟩ := H
    intro V g hc hs
    have hd := fo_d5 (E := E) hn hk c
    obtain ⟨a, b⟩ := hx.1 c V g hc
    by_cases t : tk k < 13
    · rw [se_7 h hk c.1 t] at hs
      obtain ⟨u, v⟩ := a t 6 (Nat.le_refl _) hs
      refine ⟨u, ?_⟩
      generalize me_P g (fo_dep tk E k) = P at v ⊢
      rcases me_pc hd with e | e | e | e <;> rw [e.2] at v <;> rw [e.1] <;> omega
    · have t' : 13 ≤ tk k := by omega
      rw [se_8 h hk t' c.2] at hs
      obtain ⟨u, v⟩ := b t' hs
      refine ⟨u, ?_⟩
      generalize me_P g (fo_dep tk E k) = P at v ⊢
      rcases me_pc hd with e | e | e | e <;> rw [e.1] at v ⊢ <;> omega
  · exact hx.2 c
theorem me_dl {x y p P : Nat} (h : x ≤ y) (hy : y / p ≤ P) : x / p ≤ P := Nat.le_trans (Nat.div_le_div_right h) hy
theorem me_stA (H : me_H tk E n) {m : Nat → Nat} (hm : ∀ i, i < 72 → me_ok (me_c tk E n) (m i)) (hI : me_I tk E n st mk m) {s k r : Nat} (hs : s < 6) (hk : k < n) (hd : me_ds tk E n st mk m s k r) (nb : ¬ fo_b (tk k)) : me_A tk E n st mk r s k := by
  have hA : ∀ s k, s < 6 → k < n → me_A tk E n st mk (m (12 * s + k)) s k := fun s k a b => me_BA H b (hI s k a b)
  obtain ⟨h, hb, hn, h12⟩ := H
  obtain ⟨d1, d2, d3, d4, d5, d6, d7, d8⟩ := hd
  intro V g hc hsem
  have lz : (0 : Nat) ≠ 1000000 ∧ 0 / me_p (fo_dep tk E k) ≤ me_P g (fo_dep tk E k) := ⟨by decide, by rw [Nat.zero_div]; exact Nat.zero_le _⟩
  refine se_tk (t := tk k) _ ?_ ?_ ?_ ?_ ?_ ?_ ?_ ?_ ?_
  · intro t
    rw [se_1 h hk t] at hsem
    rw [d1 t, if_pos hsem]; exact lz
  · intro t1 t
    rw [se_2 h hk t1 t] at hsem
    have e : mk (tk k - 3) s = false := by
      simpa using hsem
    rw [d2 t1 t, if_neg (by rw [e]; decide)]; exact lz
  · intro t
    have ar := fo_ar2 (Or.inl t)
    have q := fo_e6 h hk ar
    rw [se_3 h hk t] at hsem
    simp only [Bool.and_eq_true] at hsem
    have a := hA s (k + 1) hs q.1 V g (me_ce1 hc (fun p hp => fo_e1 nb hp)) hsem.1
    have b := hA s (E (k + 1)) hs q.2.2.1 V g (me_ce1 hc (fun p hp => fo_e2 h hk ar hp)) hsem.2
    rw [fo_d1 h hk (by omega) nb] at a
    rw [fo_d2 h hk ar] at b
    rcases (d3 t).2.2 with e | e
    · rw [e]; exact a
    · rw [e]; exact b
  · intro t
    have ar := fo_ar2 (Or.inr t)
    have q := fo_e6 h hk ar
    rw [se_4 h hk t] at hsem
    simp only [Bool.or_eq_true] at hsem
    obtain ⟨x1, x2, x3⟩ := d4 t
    rcases hsem with z | z
    · have a := hA s (k + 1) hs q.1 V g (me_ce1 hc (fun p hp => fo_e1 nb hp)) z
      rw [fo_d1 h hk (by omega) nb] at a
      have := me_okl (hm (12 * s + (k + 1)) (by omega)) a.1
      exact ⟨by omega, me_dl x1 a.2⟩
    · have b := hA s (E (k + 1)) hs q.2.2.1 V g (me_ce1 hc (fun p hp => fo_e2 h hk ar hp)) z
      rw [fo_d2 h hk ar] at b
      have := me_okl (hm (12 * s + E (k + 1)) (by omega)) b.1
      exact ⟨by omega, me_dl x2 b.2⟩
  · intro t
    have ar := fo_ar1 (t := tk k) (by omega) (by omega)
    have q := fo_e5 h hk (by omega)
    rw [se_5 h hk t] at hsem
    rw [se_exI] at hsem
    obtain ⟨j, hj, z⟩ := hsem
    simp only [Bool.and_eq_true] at z
    have a := hA j (k + 1) hj q.1 V g (me_ce1 hc (fun p hp => fo_e1 nb hp)) z.2
    rw [fo_d1 h hk (by omega) nb] at a
    have x1 := (d5 t).2 j hj z.1
    have := me_okl (hm (12 * j + (k + 1)) (by omega)) a.1
    exact ⟨by omega, me_dl x1 a.2⟩
  · intro t
    have ar := fo_ar1 (t := tk k) (by omega) (by omega)
    have q := fo_e5 h hk (by omega)
    rw [se_6 h hk t] at hsem
    rw [se_alI] at hsem
    rcases (d6 t).1 with e | ⟨j, hj, hst, e⟩
    · rw [e]; exact lz
    · have z := hsem j hj
      rw [hst] at z
      have z2 : se_m tk E n st mk (k + 1) V j = true := by simpa using z
      have a := hA j (k + 1) hj q.1 V g (me_ce1 hc (fun p hp => fo_e1 nb hp)) z2
      rw [fo_d1 h hk (by omega) nb] at a
      rw [e]; exact a
  · intro t1 t; exact absurd ⟨t1, by clear d1 d2 d3 d4 d5 d6 d7 d8; omega⟩ nb
  · intro t1 t; exact absurd ⟨by clear d1 d2 d3 d4 d5 d6 d7 d8; omega, t⟩ nb
  · intro t
    rw [se_9 h hk t] at hsem
    have he := hb k hk t
    have hbn : fo_B tk E k < n := Nat.lt_trans he.1 hk
    have dl := fo_d4 h hk he
    have d4k := fo_d6 (E := E) hn hk
    rw [d8 t]
    have hB := (hI s (fo_B tk E k) hs hbn).1 he.2.1 V g (me_ce1 hc (fun p hp => fo_e4 h hk he hp))
    obtain ⟨q1, q2⟩ := hc.2 _ he
    by_cases c : tk (fo_B tk E k) < 13
    · obtain ⟨u, v⟩ := q1 c
      obtain ⟨y1, y2⟩ := hB.1 c _ u (v s hs hsem)
      refine ⟨y1, ?_⟩
      have e : fo_dep tk E k = fo_dep tk E (fo_B tk E k) + 1 + (fo_dep tk E k - fo_dep tk E (fo_B tk E k) - 1) := by omega
      have := me_PP (g := g) (fo_dep tk E k - fo_dep tk E (fo_B tk E k) - 1) (fo_dep tk E (fo_B tk E k) + 1) (by omega) y2
      rw [← e] at this
      exact this
    · obtain ⟨u, v⟩ := q2 (by omega)
      obtain ⟨y1, y2⟩ := hB.2 (by omega) (v s hs hsem)
      refine ⟨y1, ?_⟩
      have e : fo_dep tk E k = fo_dep tk E (fo_B tk E k) + (fo_dep tk E k - fo_dep tk E (fo_B tk E k)) := by omega
      have := me_PP (g := g) (fo_dep tk E k - fo_dep tk E (fo_B tk E k)) (fo_dep tk E (fo_B tk E k)) (by omega) y2
      rw [← e] at this
      exact this
theorem me_stB (H : me_H tk E n) {m : Nat → Nat} (hm : ∀ i, i < 72 → me_ok (me_c tk E n) (m i)) (hI : me_I tk E n st mk m) {s k r : Nat} (hs : s < 6) (hk : k < n) (hd : me_ds tk E n st mk m s k r) (nb : fo_b (tk k)) : me_B tk E n st mk r s k := by
  have hA : ∀ s k, s < 6 → k < n → me_A tk E n st mk (m (12 * s + k)) s k := fun s k a b => me_BA H b (hI s k a b)
  have H0 := H
  have c24 := me_c24 H
  obtain ⟨h, hb, hn, h12⟩ := H
  have d7 := hd.2.2.2.2.2.2.1 nb
  have d3 := fo_d5 (E := E) hn hk nb
  have e5 := fo_e5 h hk (by rw [fo_ar1 (by omega) nb.2]; decide)
  have hmono : ∀ V, ms_mono (se_F tk E n st mk V k) := fun V => se_Fm h hb hk nb (fun q _ => ms_rf _)
  intro V g hc
  have hPg : ∀ x, me_P (me_ug g (fo_dep tk E k) x) (fo_dep tk E k) = me_P g (fo_dep tk E k) := fun x => me_Pc _ (fun i hi => if_neg (by omega))
  have hPs : ∀ x, me_P (me_ug g (fo_dep tk E k) x) (fo_dep tk E (k + 1)) = 25 * me_P g (fo_dep tk E k) + x := by
    intro x
    rw [fo_d3 h hk nb, me_Ps, hPg]
    congr 1
    exact if_pos rfl
  refine ⟨fun t j hj z => ?_, fun t z => ?_⟩
  · cases j with
    | zero => exact absurd z (by show ¬ (false = true); decide)
    | succ j =>
      have c6 := fo_ma6 (E := E) hk nb.1 t
      have a := hA s (k + 1) hs e5.1 (se_uv V k (ms_it (se_F tk E n st mk V k) ms_e j)) (me_ug g (fo_dep tk E k) j)
        (me_cext H0 hc hk nb (by unfold me_c; omega) (fun _ => ⟨by omega, ms_rf _⟩) (fun t' => by omega)) z
      rw [hPs, fo_d3 h hk nb] at a
      rcases d7 with e | e | e
      · exact absurd e.1 a.1
      · omega
      · have wv := me_wv c24 hc.1 (j := j + 1) d3 (by unfold me_c; omega)
        have rw1 := e.2.2.2.2 _ wv (by
          generalize me_P g (fo_dep tk E k) = P at a ⊢
          have a2 := a.2
          rcases me_pc d3 with e | e | e | e <;> rw [e.2] at a2 ⊢ <;> omega)
        refine ⟨?_, rw1⟩
        have := wv.1
        omega
  · have z2 := ms_gf1 (hmono V) s hs z
    have a := hA s (k + 1) hs e5.1 (se_uv V k (ms_gf (se_F tk E n st mk V k))) (me_ug g (fo_dep tk E k) 0)
        (me_cext H0 hc hk nb (Nat.zero_le _) (fun t' => by omega) (fun _ => ⟨rfl, ms_rf _⟩)) z2
    rw [hPs, fo_d3 h hk nb] at a
    have ml := me_okl (hm (12 * s + (k + 1)) (by omega)) a.1
    rcases d7 with e | e | e
    · exact absurd e.1 a.1
    · rw [e.2.2]
      generalize me_P g (fo_dep tk E k) = P at a ⊢
      generalize m (12 * s + (k + 1)) = y at a ml ⊢
      have a2 := a.2
      rcases me_pc d3 with e | e | e | e <;> rw [e.2] at a2 <;> rw [e.1] <;> constructor <;> omega
    · omega
theorem me_stI (H : me_H tk E n) {m : Nat → Nat} (hm : ∀ i, i < 72 → me_ok (me_c tk E n) (m i)) (hI : me_I tk E n st mk m) {s k r : Nat} (hs : s < 6) (hk : k < n) (hd : me_ds tk E n st mk m s k r) :
    me_I tk E n st mk (fun i => if i = 12 * s + k then r else m i) ∧ (∀ i, i < 72 → me_ok (me_c tk E n) (if i = 12 * s + k then r else m i)) := by
  have h12 := H.2.2.2
  refine ⟨fun s' k' hs' hk' => ?_, fun i hi => ?_⟩
  · show me_AB tk E n st mk (if 12 * s' + k' = 12 * s + k then r else m (12 * s' + k')) s' k'
    by_cases c : 12 * s' + k' = 12 * s + k
    · rw [if_pos c]
      have e1 : s' = s := by omega
      have e2 : k' = k := by omega
      subst e1 e2
      exact ⟨me_stB H hm hI hs hk hd, me_stA H hm hI hs hk hd⟩
    · rw [if_neg c]
      exact hI s' k' hs' hk'
  · by_cases c : i = 12 * s + k
    · rw [if_pos c]; exact me_dsok H hm hs hk hd
    · rw [if_neg c]; exact hm i hi
theorem me_I0 (m : Nat → Nat) (hm : ∀ i, i < 72 → m i = 0) (h12 : n ≤ 12) : me_I tk E n st mk m := by
  intro s k hs hk
  rw [hm (12 * s + k) (by omega)]
  refine ⟨fun _ V g _ => ⟨fun _ j _ _ => ⟨by decide, Nat.zero_le _⟩, fun _ _ => ⟨by decide, Nat.zero_le _⟩⟩, fun _ V g _ _ => ⟨by decide, by rw [Nat.zero_div]; exact Nat.zero_le _⟩⟩
theorem me_Iroot (H : me_H tk E n) {m : Nat → Nat} (hI : me_I tk E n st mk m) {s : Nat} (hs : s < 6) (h0 : 0 < n) {V : Nat → Nat → Bool} (hsem : se_m tk E n st mk 0 V s = true) : m (12 * s + 0) ≠ 1000000 := by
  have := me_BA H h0 (hI s 0 hs h0) V (fun _ => 0) ⟨fun i => Nat.zero_le _, fun p hp => absurd hp.1 (Nat.not_lt_zero _)⟩ hsem
  exact this.1
end
end
section
/-! soundness: where no demand is above its measure, a measure below LOST means truth -/
section
variable {tk E : Nat → Nat} {n : Nat} {st mk : Nat → Nat → Bool}
theorem me_so (H : me_H tk E n) {m : Nat → Nat} (hm : ∀ i, i < 72 → me_ok (me_c tk E n) (m i)) (hds : ∀ s k, s < 6 → k < n → ∃ r, me_ds tk E n st mk m s k r ∧ r ≤ m (12 * s + k)) :
    ∀ d k, n - k ≤ d → k < n → ∀ (t0 : Nat) (V : Nat → Nat → Bool), (∀ p, fo_enc tk E k p → ∀ s, s < 6 → m (12 * s + p) ≠ 1000000 → m (12 * s + p) / me_p (fo_dep tk E p + 1) ≤ t0 / me_p (fo_dep tk E p + 1) → V p s = true) →
    ∀ s, s < 6 → m (12 * s + k) ≠ 1000000 → m (12 * s + k) / me_p (fo_dep tk E k) ≤ t0 / me_p (fo_dep tk E k) → se_m tk E n st mk k V s = true := by
  obtain ⟨h, hb, hn, h12⟩ := H
  intro d
  induction d with
  | zero => intro k h1 h2; omega
  | succ d ih =>
    intro k hkd hk t0 V hV s hs hx hxt
    obtain ⟨r, hd, hr⟩ := hds s k hs hk
    have xl := me_okl (hm (12 * s + k) (by omega)) hx
    have rt : r / me_p (fo_dep tk E k) ≤ t0 / me_p (fo_dep tk E k) := me_dl hr hxt
    have hd0 := hd
    obtain ⟨d1, d2, d3, d4, d5, d6, d7, d8⟩ := hd
    refine se_tk (t := tk k) _ ?_ ?_ ?_ ?_ ?_ ?_ ?_ ?_ ?_
    · intro t
      rw [se_1 h hk t]
      have e := d1 t
      by_cases c : mk (tk k) s = true
      · exact c
      · rw [if_neg c] at e; omega
    · intro t1 t
      rw [se_2 h hk t1 t]
      have e := d2 t1 t
      by_cases c : mk (tk k - 3) s = true
      · rw [if_pos c] at e; omega
      · have c2 : mk (tk k - 3) s = false := by
          cases z : mk (tk k - 3) s
          · rfl
          · exact absurd z c
        show (!mk (tk k - 3) s) = true
        rw [c2]; rfl
    · intro t
      have ar := fo_ar2 (Or.inl t)
      have nb : ¬ fo_b (tk k) := by omega
      have q := fo_e6 h hk ar
      obtain ⟨x1, x2, x3⟩ := d3 t
      rw [se_3 h hk t]
      show (se_m tk E n st mk (k + 1) V s && se_m tk E n st mk (E (k + 1)) V s) = true
      rw [Bool.and_eq_true]
      refine ⟨ih (k + 1) (by omega) q.1 t0 V (fun p hp => hV p (fo_e1 nb hp)) s hs (by omega) ?_, ih (E (k + 1)) (by omega) q.2.2.1 t0 V (fun p hp => hV p (fo_e2 h hk ar hp)) s hs (by omega) ?_⟩
      · rw [fo_d1 h hk (by omega) nb]; exact me_dl x1 rt
      · rw [fo_d2 h hk ar]; exact me_dl x2 rt
    · intro t
      have ar := fo_ar2 (Or.inr t)
      have nb : ¬ fo_b (tk k) := by omega
      have q := fo_e6 h hk ar
      obtain ⟨x1, x2, x3⟩ := d4 t
      rw [se_4 h hk t]
      show (se_m tk E n st mk (k + 1) V s || se_m tk E n st mk (E (k + 1)) V s) = true
      rw [Bool.or_eq_true]
      rcases x3 with e | e
      · refine Or.inl (ih (k + 1) (by omega) q.1 t0 V (fun p hp => hV p (fo_e1 nb hp)) s hs (by omega) ?_)
        rw [fo_d1 h hk (by omega) nb, ← e]; exact rt
      · refine Or.inr (ih (E (k + 1)) (by omega) q.2.2.1 t0 V (fun p hp => hV p (fo_e2 h hk ar hp)) s hs (by omega) ?_)
        rw [fo_d2 h hk ar, ← e]; exact rt
    · intro t
      have ar := fo_ar1 (t := tk k) (by omega) (by omega)
      have nb : ¬ fo_b (tk k) := by omega
      have q := fo_e5 h hk (by omega)
      rw [se_5 h hk t]
      show se_ex (fun j => st s j && se_m tk E n st mk (k + 1) V j) = true
      rw [se_exI]
      rcases (d5 t).1 with e | ⟨j, hj, hst, e⟩
      · omega
      · refine ⟨j, hj, ?_⟩
        show (st s j && se_m tk E n st mk (k + 1) V j) = true
        rw [Bool.and_eq_true]
        refine ⟨hst, ih (k + 1) (by omega) q.1 t0 V (fun p hp => hV p (fo_e1 nb hp)) j hj (by omega) ?_⟩
        rw [fo_d1 h hk (by omega) nb, ← e]; exact rt
    · intro t
      have ar := fo_ar1 (t := tk k) (by omega) (by omega)
      have nb : ¬ fo_b (tk k) := by omega
      have q := fo_e5 h hk (by omega)
      rw [se_6 h hk t]
      show se_al (fun j => !st s j || se_m tk E n st mk (k + 1) V j) = true
      rw [se_alI]
      intro j hj
      show (!st s j || se_m tk E n st mk (k + 1) V j) = true
      cases hst : st s j
      · rfl
      · have x1 := (d6 t).2 j hj hst
        show (false || se_m tk E n st mk (k + 1) V j) = true
        rw [Bool.false_or]
        refine ih (k + 1) (by omega) q.1 t0 V (fun p hp => hV p (fo_e1 nb hp)) j hj (by omega) ?_
        rw [fo_d1 h hk (by omega) nb]; exact me_dl x1 rt
    · intro t1 t
      have nb : fo_b (tk k) := by omega
      have dd := fo_d5 (E := E) hn hk nb
      have q := fo_e5 h hk (by rw [fo_ar1 (by omega) nb.2]; decide)
      have hmono : ms_mono (se_F tk E n st mk V k) := se_Fm h hb hk nb (fun q _ => ms_rf _)
      rw [se_7 h hk t1 t]
      have key : ∀ x s, s < 6 → m (12 * s + k) ≠ 1000000 → m (12 * s + k) / me_p (fo_dep tk E k) ≤ t0 / me_p (fo_dep tk E k) → m (12 * s + k) / me_p (fo_dep tk E k + 1) ≤ x → ms_lf (se_F tk E n st mk V k) s = true := by
        intro x
        induction x using Nat.strongRecOn with
        | ind x ihx =>
          intro s hs hx hxt hxx
          obtain ⟨r, hd, hr⟩ := hds s k hs hk
          have xl := me_okl (hm (12 * s + k) (by omega)) hx
          rcases hd.2.2.2.2.2.2.1 nb with e | e | e
          · omega
          · omega
          · have gt := e.2.2.2.1 (by omega)
            have m1l := e.1.1
            have lt2 : m (12 * s + (k + 1)) / me_p (fo_dep tk E k + 1) < m (12 * s + k) / me_p (fo_dep tk E k + 1) := Nat.lt_of_lt_of_le gt (Nat.div_le_div_right hr)
            have up : ∀ a, a ≤ fo_dep tk E k → m (12 * s + (k + 1)) / me_p a ≤ t0 / me_p a := by
              intro a ha
              exact Nat.le_trans (me_tmb (b := fo_dep tk E k + 1) (by omega) (by omega) (Nat.le_of_lt lt2)) (me_tmb ha (by omega) hxt)
            refine ms_lf1 hmono s hs ?_
            refine ih (k + 1) (by omega) q.1 (m (12 * s + (k + 1))) _ ?_ s hs (by omega) (Nat.le_refl _)
            intro p hp s' hs' hx' hle
            rcases fo_e3 hp with e3 | e3
            · subst e3
              rw [se_us]
              refine ihx _ (Nat.lt_of_lt_of_le lt2 hxx) s' hs' hx' ?_ hle
              exact Nat.le_trans (me_tmb (b := fo_dep tk E p + 1) (by omega) (by omega) hle) (up _ (Nat.le_refl _))
            · have ne : p ≠ k := Nat.ne_of_lt e3.1
              rw [se_un ne]
              refine hV p e3 s' hs' hx' (Nat.le_trans hle (up _ (fo_d4 h hk e3)))
      exact key _ s hs hx hxt (Nat.le_refl _)
    · intro t1 t
      have nb : fo_b (tk k) := by omega
      have dd := fo_d5 (E := E) hn hk nb
      have q := fo_e5 h hk (by rw [fo_ar1 (by omega) nb.2]; decide)
      have hmono : ms_mono (se_F tk E n st mk V k) := se_Fm h hb hk nb (fun q _ => ms_rf _)
      rw [se_8 h hk t1 t]
      refine ms_gfg hmono (S := fun s => decide (m (12 * s + k) ≠ 1000000 ∧ m (12 * s + k) / me_p (fo_dep tk E k) ≤ t0 / me_p (fo_dep tk E k))) ?_ 6 s hs (decide_eq_true ⟨hx, hxt⟩)
      intro s hs hS
      obtain ⟨hx, hxt⟩ := of_decide_eq_true hS
      obtain ⟨r, hd, hr⟩ := hds s k hs hk
      have xl := me_okl (hm (12 * s + k) (by omega)) hx
      rcases hd.2.2.2.2.2.2.1 nb with e | e | e
      · omega
      · have m1l := e.1.1
        have rr := e.2.2
        have tq : (t0 / me_p (fo_dep tk E k) * me_p (fo_dep tk E k) + (me_p (fo_dep tk E k) - 1)) / me_p (fo_dep tk E k) ≤ t0 / me_p (fo_dep tk E k) := by
          rcases me_pc dd with e | e | e | e <;> rw [e.1] <;> omega
        have m1t : m (12 * s + (k + 1)) ≤ t0 / me_p (fo_dep tk E k) * me_p (fo_dep tk E k) + (me_p (fo_dep tk E k) - 1) := by
          have q1 : r / me_p (fo_dep tk E k) ≤ t0 / me_p (fo_dep tk E k) := me_dl hr hxt
          rw [rr] at q1
          generalize m (12 * s + (k + 1)) = y at q1 ⊢
          rcases me_pc dd with e | e | e | e <;> rw [e.1] at q1 ⊢ <;> omega
        refine ih (k + 1) (by omega) q.1 (t0 / me_p (fo_dep tk E k) * me_p (fo_dep tk E k) + (me_p (fo_dep tk E k) - 1)) _ ?_ s hs (by omega) (Nat.div_le_div_right m1t)
        intro p hp s' hs' hx' hle
        rcases fo_e3 hp with e3 | e3
        · subst e3
          rw [se_us]
          exact decide_eq_true ⟨hx', Nat.le_trans (me_tmb (b := fo_dep tk E p + 1) (by omega) (by omega) hle) tq⟩
        · have ne : p ≠ k := Nat.ne_of_lt e3.1
          rw [se_un ne]
          have d4 := fo_d4 h hk e3
          exact hV p e3 s' hs' hx' (Nat.le_trans hle (me_tmb d4 (by omega) tq))
      · omega
    · intro t
      rw [se_9 h hk t]
      have he := hb k hk t
      have dl := fo_d4 h hk he
      have d4k := fo_d6 (E := E) hn hk
      have e := d8 t
      refine hV _ he s hs (by omega) ?_
      rw [← e]
      exact me_tmb dl d4k rt
/-- the two halves: at the end of the rounds -/
theorem me_end (H : me_H tk E n) (h0 : 0 < n) {m : Nat → Nat} (hm : ∀ i, i < 72 → me_ok (me_c tk E n) (m i)) (hI : me_I tk E n st mk m) (hds : ∀ s k, s < 6 → k < n → ∃ r, me_ds tk E n st mk m s k r ∧ r ≤ m (12 * s + k)) {s : Nat} (hs : s < 6) :
    m (12 * s) < 1000000 ↔ se_m tk E n st mk 0 (fun _ _ => false) s = true := by
  have ok := hm (12 * s) (by omega)
  constructor
  · intro z
    have d0 : fo_dep tk E 0 = 0 := rfl
    refine me_so H hm hds n 0 (by omega) h0 (m (12 * s)) _ (fun p hp => absurd hp.1 (Nat.not_lt_zero _)) s hs ?_ (Nat.le_refl _)
    show m (12 * s) ≠ 1000000
    omega
  · intro z
    have a : m (12 * s) ≠ 1000000 := me_Iroot H hI hs h0 z
    have b := me_okl ok a
    omega
end
end
section
/-! the reference: values with kept sets, its invariant, its rank -/
def ev_step (tk E : Nat → Nat) (st mk : Nat → Nat → Bool) (V : Nat → Nat → Bool) (f : Nat → Nat → Bool) (k : Nat) : Nat → Bool :=
  if tk k < 3 then mk (tk k)
  else if tk k < 6 then fun s => !mk (tk k - 3) s
  else if tk k = 6 then fun s => f (k + 1) s && f (E (k + 1)) s
  else if tk k = 7 then fun s => f (k + 1) s || f (E (k + 1)) s
  else if tk k = 8 then fun s => se_ex (fun j => st s j && f (k + 1) j)
  else if tk k = 9 then fun s => se_al (fun j => !st s j || f (k + 1) j)
  else if tk k < 16 then V k
  else V (fo_B tk E k)
def ev_m (tk E : Nat → Nat) (n : Nat) (st mk : Nat → Nat → Bool) (V : Nat → Nat → Bool) (k : Nat) : Nat → Bool :=
  fx_v (fun _ => false) (fun f k => ev_step tk E st mk V f k) n k
theorem ev_loc {tk E : Nat → Nat} {n : Nat} {st mk : Nat → Nat → Bool} {V : Nat → Nat → Bool} (h : fo_wf tk n E 0) : fx_loc (fun f k => ev_step tk E st mk V f k) n := by
  intro k hk f g hfg
  have e5 := fun ar => fo_e5 h hk ar
  have e6 := fun ar => fo_e6 h hk ar
  show ev_step tk E st mk V f k = ev_step tk E st mk V g k
  unfold ev_step
  by_cases c1 : tk k < 3
  · rw [if_pos c1, if_pos c1]
  rw [if_neg c1, if_neg c1]
  by_cases c2 : tk k < 6
  · rw [if_pos c2, if_pos c2]
  rw [if_neg c2, if_neg c2]
  by_cases c3 : tk k = 6
  · have q := e6 (fo_ar2 (Or.inl c3))
    rw [if_pos c3, if_pos c3, hfg (k + 1) (by omega) q.1, hfg (E (k + 1)) (by omega) q.2.2.1]
  rw [if_neg c3, if_neg c3]
  by_cases c4 : tk k = 7
  · have q := e6 (fo_ar2 (Or.inr c4))
    rw [if_pos c4, if_pos c4, hfg (k + 1) (by omega) q.1, hfg (E (k + 1)) (by omega) q.2.2.1]
  rw [if_neg c4, if_neg c4]
  by_cases c9 : 16 ≤ tk k
  · rw [if_neg (by omega), if_neg (by omega), if_neg (by omega), if_neg (by omega), if_neg (by omega)]
  have q := e5 (by rw [fo_ar1 (by omega) (by omega)]; decide)
  rw [hfg (k + 1) (by omega) q.1]
section
variable {tk E : Nat → Nat} {n : Nat} {st mk : Nat → Nat → Bool} {V : Nat → Nat → Bool}
theorem ev_eq (h : fo_wf tk n E 0) {k : Nat} (hk : k < n) : ev_m tk E n st mk V k = ev_step tk E st mk V (ev_m tk E n st mk V) k := fx_eq (ev_loc h) hk
theorem ev_1 (h : fo_wf tk n E 0) {k : Nat} (hk : k < n) (t : tk k < 3) : ev_m tk E n st mk V k = mk (tk k) := by
  rw [ev_eq h hk]; unfold ev_step; rw [if_pos t]
theorem ev_2 (h : fo_wf tk n E 0) {k : Nat} (hk : k < n) (t1 : 3 ≤ tk k) (t : tk k < 6) : ev_m tk E n st mk V k = fun s => !mk (tk k - 3) s := by
  rw [ev_eq h hk]; unfold ev_step; rw [if_neg (by omega), if_pos t]
theorem ev_3 (h : fo_wf tk n E 0) {k : Nat} (hk : k < n) (t : tk k = 6) : ev_m tk E n st mk V k = fun s => ev_m tk E n st mk V (k + 1) s && ev_m tk E n st mk V (E (k + 1)) s := by
  rw [ev_eq h hk]; unfold ev_step; rw [if_neg (by omega), if_neg (by omega), if_pos t]
theorem ev_4 (h : fo_wf tk n E 0) {k : Nat} (hk : k < n) (t : tk k = 7) : ev_m tk E n st mk V k = fun s => ev_m tk E n st mk V (k + 1) s || ev_m tk E n st mk V (E (k + 1)) s := by
  rw [ev_eq h hk]; unfold ev_step; rw [if_neg (by omega), if_neg (by omega), if_neg (by omega), if_pos t]
theorem ev_5 (h : fo_wf tk n E 0) {k : Nat} (hk : k < n) (t : tk k = 8) : ev_m tk E n st mk V k = fun s => se_ex (fun j => st s j && ev_m tk E n st mk V (k + 1) j) := by
  rw [ev_eq h hk]; unfold ev_step; rw [if_neg (by omega), if_neg (by omega), if_neg (by omega), if_neg (by omega), if_pos t]
theorem ev_6 (h : fo_wf tk n E 0) {k : Nat} (hk : k < n) (t : tk k = 9) : ev_m tk E n st mk V k = fun s => se_al (fun j => !st s j || ev_m tk E n st mk V (k + 1) j) := by
  rw [ev_eq h hk]; unfold ev_step; rw [if_neg (by omega), if_neg (by omega), if_neg (by omega), if_neg (by omega), if_neg (by omega), if_pos t]
theorem ev_7 (h : fo_wf tk n E 0) {k : Nat} (hk : k < n) (t : fo_b (tk k)) : ev_m tk E n st mk V k = V k := by
  rw [ev_eq h hk]; unfold ev_step; rw [if_neg (by omega), if_neg (by omega), if_neg (by omega), if_neg (by omega), if_neg (by omega), if_neg (by omega), if_pos t.2]
theorem ev_8 (h : fo_wf tk n E 0) {k : Nat} (hk : k < n) (t1 : 16 ≤ tk k) : ev_m tk E n st mk V k = V (fo_B tk E k) := by
  rw [ev_eq h hk]; unfold ev_step; rw [if_neg (by omega), if_neg (by omega), if_neg (by omega), if_neg (by omega), if_neg (by omega), if_neg (by omega), if_neg (by omega)]
def ev_q (S T : Nat → Bool) : Prop := ms_le S T ∧ ms_le T S
theorem ev_qr (S : Nat → Bool) : ev_q S S := ⟨ms_rf _, ms_rf _⟩
theorem ev_qs {S T : Nat → Bool} (h : ev_q S T) : ev_q T S := ⟨h.2, h.1⟩
theorem ev_qt {S T U : Nat → Bool} (a : ev_q S T) (b : ev_q T U) : ev_q S U := ⟨ms_tr a.1 b.1, ms_tr b.2 a.2⟩
/-- where the kept sets from k on are exact, so is the value -/
theorem ev_se (h : fo_wf tk n E 0) : ∀ d k, n - k ≤ d → k < n → (∀ p, k ≤ p → p < n → fo_b (tk p) → ev_q (V p) (se_m tk E n st mk p V)) → ev_q (ev_m tk E n st mk V k) (se_m tk E n st mk k V) := by
  intro d
  induction d with
  | zero => intro k h1 h2; omega
  | succ d ih =>
    intro k h1 hk hV
    have c1 : fo_ar (tk k) ≠ 0 → ev_q (ev_m tk E n st mk V (k + 1)) (se_m tk E n st mk (k + 1) V) := by
      intro ar
      exact ih (k + 1) (by omega) (fo_e5 h hk ar).1 (fun p a b => hV p (by omega) b)
    have c2 : fo_ar (tk k) = 2 → ev_q (ev_m tk E n st mk V (E (k + 1))) (se_m tk E n st mk (E (k + 1)) V) := by
      intro ar
      have q := fo_e6 h hk ar
      exact ih (E (k + 1)) (by omega) q.2.2.1 (fun p a b => hV p (by omega) b)
    refine se_tk (t := tk k) _ ?_ ?_ ?_ ?_ ?_ ?_ ?_ ?_ ?_
    · intro t
      rw [se_1 h hk t, ev_1 h hk t]; exact ev_qr _
    · intro t1 t
      rw [se_2 h hk t1 t, ev_2 h hk t1 t]; exact ev_qr _
    · intro t
      have ar := fo_ar2 (Or.inl t)
      have a := c1 (by omega)
      have b := c2 ar
      rw [se_3 h hk t, ev_3 h hk t]
      refine ⟨fun s hs z => ?_, fun s hs z => ?_⟩
      · simp only [Bool.and_eq_true] at z ⊢
        exact ⟨a.1 s hs z.1, b.1 s hs z.2⟩
      · simp only [Bool.and_eq_true] at z ⊢
        exact ⟨a.2 s hs z.1, b.2 s hs z.2⟩
    · intro t
      have ar := fo_ar2 (Or.inr t)
      have a := c1 (by omega)
      have b := c2 ar
      rw [se_4 h hk t, ev_4 h hk t]
      refine ⟨fun s hs z => ?_, fun s hs z => ?_⟩
      · simp only [Bool.or_eq_true] at z ⊢
        exact z.imp (a.1 s hs) (b.1 s hs)
      · simp only [Bool.or_eq_true] at z ⊢
        exact z.imp (a.2 s hs) (b.2 s hs)
    · intro t
      have ar := fo_ar1 (t := tk k) (by omega) (by omega)
      have a := c1 (by omega)
      rw [se_5 h hk t, ev_5 h hk t]
      refine ⟨fun s hs z => ?_, fun s hs z => ?_⟩
      · rw [se_exI] at z ⊢
        obtain ⟨j, hj, z⟩ := z
        refine ⟨j, hj, ?_⟩
        simp only [Bool.and_eq_true] at z ⊢
        exact ⟨z.1, a.1 j hj z.2⟩
      · rw [se_exI] at z ⊢
        obtain ⟨j, hj, z⟩ := z
        refine ⟨j, hj, ?_⟩
        simp only [Bool.and_eq_true] at z ⊢
        exact ⟨z.1, a.2 j hj z.2⟩
    · intro t
      have ar := fo_ar1 (t := tk k) (by omega) (by omega)
      have a := c1 (by omega)
      rw [se_6 h hk t, ev_6 h hk t]
      refine ⟨fun s hs z => ?_, fun s hs z => ?_⟩
      · rw [se_alI] at z ⊢
        intro j hj
        have z := z j hj
        simp only [Bool.or_eq_true] at z ⊢
        exact z.imp id (a.1 j hj)
      · rw [se_alI] at z ⊢
        intro j hj
        have z := z j hj
        simp only [Bool.or_eq_true] at z ⊢
        exact z.imp id (a.2 j hj)
    · intro t1 t
      rw [ev_7 h hk (by omega)]
      exact hV k (Nat.le_refl _) hk (by omega)
    · intro t1 t
      rw [ev_7 h hk (by omega)]
      exact hV k (Nat.le_refl _) hk (by omega)
    · intro t
      rw [se_9 h hk t, ev_8 h hk t]; exact ev_qr _
/-- the invariant of the rounds -/
def ev_I (tk E : Nat → Nat) (n : Nat) (st mk : Nat → Nat → Bool) (V : Nat → Nat → Bool) : Prop := ∀ p, p < n → fo_b (tk p) →
  (tk p < 13 → ms_le (V p) (se_m tk E n st mk p V) ∧ ms_le (V p) (se_F tk E n st mk V p (V p))) ∧ (13 ≤ tk p → ms_le (se_m tk E n st mk p V) (V p) ∧ ms_le (se_F tk E n st mk V p (V p)) (V p))
theorem se_uid {k : Nat} : se_uv V k (V k) = V := by
  funext j
  by_cases c : j = k
  · subst c; exact se_us
  · exact se_un c
theorem ev_st (H : me_H tk E n) (I : ev_I tk E n st mk V) {o : Nat} (hset : ∀ p, o ≤ p → p < n → fo_b (tk p) → ev_q (ev_m tk E n st mk V (p + 1)) (V p)) :
    ∀ d p, n - p ≤ d → o ≤ p → p < n → fo_b (tk p) → ev_q (V p) (se_m tk E n st mk p V) := by
  obtain ⟨h, hb, hn, h12⟩ := H
  intro d
  induction d with
  | zero => intro p h1 h2 h3; omega
  | succ d ih =>
    intro p h1 h2 hp hbp
    have q := fo_e5 h hp (by rw [fo_ar1 (by omega) hbp.2]; decide)
    have a := ev_se (V := V) (st := st) (mk := mk) h n (p + 1) (by omega) q.1 (fun p' u v w => ih p' (by omega) (by omega) v w)
    have b : ev_q (V p) (se_F tk E n st mk V p (V p)) := by
      unfold se_F
      rw [se_uid]
      exact ev_qt (ev_qs (hset p h2 hp hbp)) a
    have hmono : ms_mono (se_F tk E n st mk V p) := se_Fm h hb hp hbp (fun q _ => ms_rf _)
    obtain ⟨i1, i2⟩ := I p hp hbp
    by_cases t : tk p < 13
    · refine ⟨(i1 t).1, ?_⟩
      rw [se_7 h hp hbp.1 t]
      exact ms_lfl hmono b.2 6
    · refine ⟨?_, (i2 (by omega)).1⟩
      rw [se_8 h hp (by omega) hbp.2]
      exact ms_gfg hmono b.1 6
/-- one round -/
theorem ev_up (H : me_H tk E n) (I : ev_I tk E n st mk V) {o : Nat} (ho : o < n) (hbo : fo_b (tk o)) (hset : ∀ p, o + 1 ≤ p → p < n → fo_b (tk p) → ev_q (ev_m tk E n st mk V (p + 1)) (V p))
    {W : Nat → Nat → Bool} (hW : ev_q (W o) (ev_m tk E n st mk V (o + 1))) (hin : ∀ p, o < p → p < E o → (tk p < 13 → ms_le (W p) ms_e) ∧ (13 ≤ tk p → ms_le ms_f (W p)))
    (hout : ∀ p, p < n → p < o ∨ E o ≤ p → W p = V p) : ev_I tk E n st mk W ∧ ev_q (ev_m tk E n st mk V (o + 1)) (se_F tk E n st mk V o (V o)) := by
  have S := ev_st H I hset
  obtain ⟨h, hb, hn, h12⟩ := H
  have q := fo_e5 h ho (by rw [fo_ar1 (by omega) hbo.2]; decide)
  have a := ev_se (V := V) (st := st) (mk := mk) h n (o + 1) (by omega) q.1 (fun p' u v w => S n p' (by omega) (by omega) v w)
  have b : ev_q (ev_m tk E n st mk V (o + 1)) (se_F tk E n st mk V o (V o)) := by
    unfold se_F
    rw [se_uid]
    exact a
  refine ⟨fun p hp hbp => ?_, b⟩
  have bw := ev_qt hW b
  by_cases c1 : p < o ∨ E o ≤ p
  · have same : ∀ q, fo_enc tk E p q → W q = V q := by
      intro q hq
      have hq1 := hq.1
      have hq2 := hq.2.2
      refine hout q (by omega) ?_
      rcases Nat.lt_or_ge q o with z | z
      · exact Or.inl z
      · rcases Nat.lt_or_ge q (E o) with z2 | z2
        · have := fo_lm h (a := o) (p := q) ho z z2
          omega
        · exact Or.inr z2
    have e := hout p hp c1
    have m1 : ms_le (se_m tk E n st mk p V) (se_m tk E n st mk p W) := se_mn h hb hp (fun q hq => by rw [same q hq]; exact ms_rf _)
    have m2 : ms_le (se_m tk E n st mk p W) (se_m tk E n st mk p V) := se_mn h hb hp (fun q hq => by rw [same q hq]; exact ms_rf _)
    have f1 : ms_le (se_F tk E n st mk V p (V p)) (se_F tk E n st mk W p (V p)) := se_Fm h hb hp hbp (fun q hq => by rw [same q hq]; exact ms_rf _) _ _ (ms_rf _)
    have f2 : ms_le (se_F tk E n st mk W p (V p)) (se_F tk E n st mk V p (V p)) := se_Fm h hb hp hbp (fun q hq => by rw [same q hq]; exact ms_rf _) _ _ (ms_rf _)
    obtain ⟨i1, i2⟩ := I p hp hbp
    rw [e]
    exact ⟨fun t => ⟨ms_tr (i1 t).1 m1, ms_tr (i1 t).2 f1⟩, fun t => ⟨ms_tr m2 (i2 t).1, ms_tr f2 (i2 t).2⟩⟩
  · by_cases c2 : p = o
    · subst c2
      have same : ∀ q, fo_enc tk E p q → W q = V q := fun q hq => hout q (Nat.lt_trans hq.1 hp) (Or.inl hq.1)
      have m1 : ms_le (se_m tk E n st mk p V) (se_m tk E n st mk p W) := se_mn h hb hp (fun q hq => by rw [same q hq]; exact ms_rf _)
      have m2 : ms_le (se_m tk E n st mk p W) (se_m tk E n st mk p V) := se_mn h hb hp (fun q hq => by rw [same q hq]; exact ms_rf _)
      have f1 : ∀ S T, ms_le S T → ms_le (se_F tk E n st mk V p S) (se_F tk E n st mk W p T) := se_Fm h hb hp hbp (fun q hq => by rw [same q hq]; exact ms_rf _)
      have f2 : ∀ S T, ms_le S T → ms_le (se_F tk E n st mk W p S) (se_F tk E n st mk V p T) := se_Fm h hb hp hbp (fun q hq => by rw [same q hq]; exact ms_rf _)
      have hmono : ms_mono (se_F tk E n st mk V p) := se_Fm h hb hp hbp (fun q _ => ms_rf _)
      obtain ⟨i1, i2⟩ := I p hp hbp
      refine ⟨fun t => ⟨?_, ?_⟩, fun t => ⟨?_, ?_⟩⟩
      · refine ms_tr bw.1 (ms_tr (hmono _ _ (i1 t).1) (ms_tr ?_ m1))
        rw [se_7 h hp hbp.1 t]
        exact ms_lf1 hmono
      · exact ms_tr bw.1 (f1 _ _ (ms_tr (i1 t).2 bw.2))
      · refine ms_tr m2 (ms_tr ?_ bw.2)
        refine ms_tr ?_ (hmono _ _ (i2 t).1)
        rw [se_8 h hp t hbp.2]
        exact ms_gf1 hmono
      · exact ms_tr (f2 _ _ (ms_tr bw.1 (i2 t).2)) bw.2
    · obtain ⟨j1, j2⟩ := hin p (by omega) (by omega)
      exact ⟨fun t => ⟨ms_tr (j1 t) (ms_eb _), ms_tr (j1 t) (ms_eb _)⟩, fun t => ⟨ms_tr (ms_ft _) (j2 t), ms_tr (ms_ft _) (j2 t)⟩⟩
theorem ev_0 (hV : ∀ p, p < n → (tk p < 13 → ms_le (V p) ms_e) ∧ (13 ≤ tk p → ms_le ms_f (V p))) : ev_I tk E n st mk V := by
  intro p hp hbp
  obtain ⟨j1, j2⟩ := hV p hp
  exact ⟨fun t => ⟨ms_tr (j1 t) (ms_eb _), ms_tr (j1 t) (ms_eb _)⟩, fun t => ⟨ms_tr (ms_ft _) (j2 t), ms_tr (ms_ft _) (j2 t)⟩⟩
theorem ev_end (H : me_H tk E n) (h0 : 0 < n) (I : ev_I tk E n st mk V) (hset : ∀ p, p < n → fo_b (tk p) → ev_q (ev_m tk E n st mk V (p + 1)) (V p)) : ev_q (ev_m tk E n st mk V 0) (se_m tk E n st mk 0 (fun _ _ => false)) := by
  have S := ev_st H I (o := 0) (fun p _ => hset p)
  obtain ⟨h, hb, hn, h12⟩ := H
  have a := ev_se (V := V) (st := st) (mk := mk) h n 0 (by omega) h0 (fun p' u v w => S n p' (by omega) u v w)
  refine ev_qt a ⟨?_, ?_⟩
  · exact se_mn h hb h0 (fun p hp => absurd hp.1 (Nat.not_lt_zero _))
  · exact se_mn h hb h0 (fun p hp => absurd hp.1 (Nat.not_lt_zero _))
end
/-! the rank -/
def ev_d (tk : Nat → Nat) (V : Nat → Nat → Bool) (p : Nat) : Nat := if tk p < 13 then ms_card (V p) else 6 - ms_card (V p)
def ev_H (tk : Nat → Nat) (V : Nat → Nat → Bool) : Nat → Nat
  | 0 => 0
  | p + 1 => if fo_b (tk p) then 7 * ev_H tk V p + ev_d tk V p else ev_H tk V p
section
variable {tk E : Nat → Nat} {n : Nat} {st mk : Nat → Nat → Bool} {V W : Nat → Nat → Bool}
theorem ev_Hs {p : Nat} : ev_H tk V (p + 1) = if fo_b (tk p) then 7 * ev_H tk V p + ev_d tk V p else ev_H tk V p := rfl
theorem ev_d6 (p : Nat) : ev_d tk V p ≤ 6 := by
  have := ms_card6 (V p)
  unfold ev_d
  by_cases c : tk p < 13
  · rw [if_pos c]; exact this
  · rw [if_neg c]; omega
theorem ev_Hb : ∀ j, ev_H tk V j + 1 ≤ 7 ^ fo_nb tk j := by
  intro j
  induction j with
  | zero => exact Nat.le_refl _
  | succ j ih =>
    have d6 := ev_d6 (tk := tk) (V := V) j
    rw [ev_Hs, fo_nbs]
    by_cases c : fo_b (tk j)
    · rw [if_pos c, if_pos c, Nat.pow_succ]
      omega
    · rw [if_neg c, if_neg c, Nat.add_zero]
      exact ih
theorem ev_H4 (hn : fo_nb tk n ≤ 4) : ev_H tk V n ≤ 2400 := by
  have a := ev_Hb (tk := tk) (V := V) n
  have b : 7 ^ fo_nb tk n ≤ 7 ^ 4 := Nat.pow_le_pow_right (by decide) hn
  have c : 7 ^ 4 = 2401 := by decide
  omega
theorem ev_Hc : ∀ j, (∀ p, p < j → W p = V p) → ev_H tk W j = ev_H tk V j := by
  intro j
  induction j with
  | zero => intro _; rfl
  | succ j ih =>
    intro h
    rw [ev_Hs, ev_Hs, ih (fun p hp => h p (by omega))]
    unfold ev_d
    rw [h j (by omega)]
theorem ev_Hi {o : Nat} (hbo : fo_b (tk o)) (hs : ∀ p, p < o → W p = V p) (hd : ev_d tk V o + 1 ≤ ev_d tk W o) : ∀ i, ev_H tk V (o + 1 + i) + 1 ≤ ev_H tk W (o + 1 + i) := by
  intro i
  induction i with
  | zero =>
    show ev_H tk V (o + 1) + 1 ≤ ev_H tk W (o + 1)
    rw [ev_Hs, ev_Hs, if_pos hbo, if_pos hbo, ev_Hc o hs]
    omega
  | succ i ih =>
    have d6 := ev_d6 (tk := tk) (V := V) (o + 1 + i)
    rw [← Nat.add_assoc, ev_Hs, ev_Hs]
    by_cases c : fo_b (tk (o + 1 + i))
    · rw [if_pos c, if_pos c]; omega
    · rw [if_neg c, if_neg c]; exact ih
theorem ev_ri (I : ev_I tk E n st mk V) {o : Nat} (ho : o < n) (hbo : fo_b (tk o)) {Bd : Nat → Bool} (hW : W o = Bd) (hB : ev_q Bd (se_F tk E n st mk V o (V o))) (hop : ¬ ev_q Bd (V o)) (hs : ∀ p, p < o → W p = V p) : ev_H tk V n + 1 ≤ ev_H tk W n := by
  have e : n = o + 1 + (n - o - 1) := by omega
  obtain ⟨i1, i2⟩ := I o ho hbo
  have d : ev_d tk V o + 1 ≤ ev_d tk W o := by
    unfold ev_d
    rw [hW]
    by_cases t : tk o < 13
    · rw [if_pos t, if_pos t]
      have a := ms_tr (i1 t).2 hB.2
      exact ms_cardl a (fun z => hop ⟨z, a⟩)
    · rw [if_neg t, if_neg t]
      have a := ms_tr hB.1 (i2 (by omega)).2
      have b := ms_cardl a (fun z => hop ⟨a, z⟩)
      have c := ms_card6 (V o)
      omega
  have := ev_Hi hbo hs d (n - o - 1)
  rw [← e] at this
  exact this
end
/-! the stack: heights of the row of terms from k to the end -/
def ch_h (E : Nat → Nat) (n : Nat) (k : Nat) : Nat := if k < n then fx_v 0 (fun f k => if E k < n then f (E k) + 1 else 1) n k else 0
def ch_on (E : Nat → Nat) (n : Nat) (k j : Nat) : Prop := k ≤ j ∧ j < n ∧ ∀ p, k ≤ p → p < j → E p ≤ j
section
variable {tk E : Nat → Nat} {n : Nat}
theorem ch_eq (h : fo_wf tk n E 0) {k : Nat} (hk : k < n) : ch_h E n k = ch_h E n (E k) + 1 := by
  have loc : fx_loc (fun (f : Nat → Nat) k => if E k < n then f (E k) + 1 else 1) n := by
    intro k hk f g hfg
    have q := (h k (Nat.zero_le _) hk).1
    show (if E k < n then f (E k) + 1 else 1) = (if E k < n then g (E k) + 1 else 1)
    by_cases c : E k < n
    · rw [if_pos c, if_pos c, hfg (E k) q c]
    · rw [if_neg c, if_neg c]
  have e := fx_eq (d0 := 0) loc hk
  unfold ch_h
  rw [if_pos hk, e]
  by_cases c : E k < n
  · rw [if_pos c, if_pos c]
  · rw [if_neg c, if_neg c]
theorem ch_n {k : Nat} (hk : n ≤ k) : ch_h E n k = 0 := if_neg (by omega)
theorem ch_b (h : fo_wf tk n E 0) : ∀ d k, n - k ≤ d → ch_h E n k ≤ n - k := by
  intro d
  induction d with
  | zero =>
    intro k h1
    rw [ch_n (by omega)]; exact Nat.zero_le _
  | succ d ih =>
    intro k h1
    rcases Nat.lt_or_ge k n with c | c
    · have q := (h k (Nat.zero_le _) c)
      have q1 := q.1
      have q2 := q.2.1
      have := ih (E k) (by omega)
      rw [ch_eq h c]
      omega
    · rw [ch_n c]; exact Nat.zero_le _
theorem ch_m (h : fo_wf tk n E 0) : ∀ d k j, n - k ≤ d → ch_on E n k j → ch_h E n j ≤ ch_h E n k ∧ (k < j → ch_h E n j < ch_h E n k) := by
  intro d
  induction d with
  | zero => intro k j h1 h2; have := h2.1; have := h2.2.1; omega
  | succ d ih =>
    intro k j h1 h2
    obtain ⟨a, b, c⟩ := h2
    rcases Nat.lt_or_ge k j with z | z
    · have q := (h k (Nat.zero_le _) (by omega)).1
      have e := c k (Nat.le_refl _) z
      have := ih (E k) j (by omega) ⟨e, b, fun p u v => c p (by omega) v⟩
      rw [ch_eq h (by omega : k < n)]
      omega
    · have e : k = j := by omega
      subst e
      exact ⟨Nat.le_refl _, fun z => absurd z (Nat.lt_irrefl _)⟩
end
end
section
/-! arrays of naturals, of bits; small steps -/
def xa_r (f : Nat → Nat) : Nat → Int32 := fun i => nI (f i)
def xa_u (f : Nat → Nat) (k v : Nat) : Nat → Nat := fun j => if j = k then v else f j
def xa_b (a : Nat → Int32) : Nat → Nat → Bool := fun i s => bt (a i) s
theorem xa_us {f : Nat → Nat} {k v : Nat} : xa_u f k v k = v := if_pos rfl
theorem xa_un {f : Nat → Nat} {k v j : Nat} (h : j ≠ k) : xa_u f k v j = f j := if_neg h
theorem xa_cl {f : Nat → Nat} {i : Nat} (h : i < 2 ^ 31) : xa_r f (nI i).toNatClampNeg = nI (f i) := by rw [nI_clamp h]; rfl
theorem xa_cla {a : Nat → Int32} {i : Nat} (h : i < 2 ^ 31) : a (nI i).toNatClampNeg = a i := by rw [nI_clamp h]
theorem xa_up {f : Nat → Nat} {k v : Nat} : upd (xa_r f) k (nI v) = xa_r (xa_u f k v) := by
  funext j
  unfold upd xa_r xa_u
  by_cases h : j = k
  · rw [if_pos h, if_pos h]
  · rw [if_neg h, if_neg h]
theorem xa_i8 : ∀ x, x < 128 → (nI x).toInt8.toInt32 = nI x := by decide +kernel
theorem xa_by {x : Nat} (h : x < 128) : vp_nar .byte (nI x).toInt8.toInt32 = nI x := by rw [pk_vb]; exact xa_i8 x h
theorem xa_b0 : vp_nar .byte 0 = nI 0 := by rw [vp_nar_byte]; decide
theorem xa_bm : vp_nar .byte (-1) = -1 := by rw [vp_nar_byte]; decide
theorem xa_upc {a : Nat → Int32} {k : Nat} {v : Int32} (hk : k < 2 ^ 31) : upd a (nI k).toNatClampNeg v = upd a k v := by rw [nI_clamp hk]
theorem xa_bup {a : Nat → Int32} {k x : Nat} (hk : k < 2 ^ 31) (hx : x < 128) : upd a (nI k).toNatClampNeg (vp_nar .byte (nI x).toInt8.toInt32) = upd a k (nI x) := by rw [nI_clamp hk, xa_by hx]
theorem xa_uu {a : Nat → Int32} {k : Nat} {x y : Int32} : upd (upd a k x) k y = upd a k y := by
  funext j
  by_cases h : j = k
  · subst h; rw [pk_us, pk_us]
  · rw [pk_un h, pk_un h, pk_un h]
theorem xa_m0 : nI 0 + (-1) < 0 := by decide
theorem xa_s1 (x : Int32) : x - 1 = x + (-1) := by rw [Int32.sub_eq_add_neg]
theorem xa_ml {k : Nat} (h : k < 2 ^ 31) : ¬ nI k < 0 := nI_pos h
/-! the simple methods of the component, a general post each -/
section
variable {n : Nat} {tk : Nat → Nat} {pa is de so : Int32} {nx mq tE sT bi dO ms mA dg : Nat → Int32}
theorem xs_is0 {post : Int32 → Prop} {x : Int32} (h : x < 0 ∨ nI 6 ≤ x) (hp : post 0) : wpX_isState post (nI n, pa, is, de, so, nx, mq, xa_r tk, tE, sT, bi, dO, ms, mA, dg) x := by
  unfold wpX_isState
  by_cases c : x < 0
  · exact br_t c hp
  · exact br_f c (br_t (h.resolve_left c) hp)
theorem xs_is1 {post : Int32 → Prop} {j : Nat} (h : j < 6) (hp : post 1) : wpX_isState post (nI n, pa, is, de, so, nx, mq, xa_r tk, tE, sT, bi, dO, ms, mA, dg) (nI j) := by
  unfold wpX_isState
  exact br_f (nI_pos (by omega)) (br_f (nI_ge (b := 6) h (by decide)) hp)
theorem xs_step0 {post : Int32 → SX → Prop} {x y b : Int32} (h : (x < 0 ∨ nI 6 ≤ x) ∨ ((∃ j, j < 6 ∧ x = nI j) ∧ (y < 0 ∨ nI 6 ≤ y))) (hp : post 0 (nI n, pa, is, de, so, nx, mq, xa_r tk, tE, sT, bi, dO, ms, mA, dg)) : wpX_step post (nI n, pa, is, de, so, nx, mq, xa_r tk, tE, sT, bi, dO, ms, mA, dg) x y b := by
  unfold wpX_step
  dsimp only
  rcases h with h | ⟨⟨j, hj, e⟩, h⟩
  · refine xs_is0 h ?_
    exact br_t rfl hp
  · subst e
    refine xs_is1 hj ?_
    refine br_f (by decide) ?_
    refine xs_is0 h ?_
    exact br_t rfl hp
def xs_nx (nx : Nat → Int32) (s t : Nat) (b : Int32) : Nat → Int32 := upd nx s (if b = 0 then nx s &&& (((1 : Int32) <<< (nI t &&& 31)) ^^^ (-1)) else nx s ||| ((1 : Int32) <<< (nI t &&& 31)))
theorem xs_step1 {post : Int32 → SX → Prop} {s t : Nat} {b : Int32} (hs : s < 6) (ht : t < 6) (hp : post 1 (nI n, pa, is, de, 0, xs_nx nx s t b, mq, xa_r tk, tE, sT, bi, dO, ms, mA, dg)) : wpX_step post (nI n, pa, is, de, so, nx, mq, xa_r tk, tE, sT, bi, dO, ms, mA, dg) (nI s) (nI t) b := by
  unfold wpX_step
  dsimp only
  refine xs_is1 hs ?_
  refine br_f (by decide) ?_
  refine xs_is1 ht ?_
  refine br_f (by decide) ?_
  by_cases c : b = 0
  · refine br_t c ⟨vp_in_nI hs (by decide), vp_in_nI hs (by decide), nm_r (e' := xs_nx nx s t b) ?_ hp⟩
    unfold xs_nx
    rw [nI_clamp (by omega), if_pos c]
  · refine br_f c ⟨vp_in_nI hs (by decide), vp_in_nI hs (by decide), nm_r (e' := xs_nx nx s t b) ?_ hp⟩
    unfold xs_nx
    rw [nI_clamp (by omega), if_neg c]
theorem xs_mark0 {post : Int32 → SX → Prop} {x y : Int32} (h : x < 0 ∨ 2 < x ∨ y < 0 ∨ ¬ y ≤ 63) (hp : post 0 (nI n, pa, is, de, so, nx, mq, xa_r tk, tE, sT, bi, dO, ms, mA, dg)) : wpX_mark post (nI n, pa, is, de, so, nx, mq, xa_r tk, tE, sT, bi, dO, ms, mA, dg) x y := by
  unfold wpX_mark
  dsimp only
  by_cases c1 : x < 0
  · exact br_t c1 hp
  refine br_f c1 ?_
  by_cases c2 : 2 < x
  · exact br_t c2 hp
  refine br_f c2 ?_
  by_cases c3 : y < 0
  · exact br_t c3 hp
  refine br_f c3 (br_f ?_ hp)
  rcases h with h | h | h | h
  · exact absurd h c1
  · exact absurd h c2
  · exact absurd h c3
  · exact h
theorem xs_mark1 {post : Int32 → SX → Prop} {i : Nat} {y : Int32} (hi : i < 3) (h1 : ¬ y < 0) (h2 : y ≤ 63) (hp : post 1 (nI n, pa, is, de, 0, nx, upd mq i y, xa_r tk, tE, sT, bi, dO, ms, mA, dg)) : wpX_mark post (nI n, pa, is, de, so, nx, mq, xa_r tk, tE, sT, bi, dO, ms, mA, dg) (nI i) y := by
  unfold wpX_mark
  dsimp only
  refine br_f (nI_pos (by omega)) (br_f (nI_nlt (a := 2) (b := i) (by omega) (by omega) : ¬ nI 2 < nI i) (br_f h1 (br_t h2 ⟨vp_in_nI hi (by decide), nm_r (xa_upc (by omega)) hp⟩)))
theorem xs_chg {post : SX → Prop} (hp : post (nI n, 0, is, de, 0, nx, mq, xa_r tk, tE, sT, bi, dO, ms, mA, dg)) : wpX_changeFormula post (nI n, pa, is, de, so, nx, mq, xa_r tk, tE, sT, bi, dO, ms, mA, dg) := by
  unfold wpX_changeFormula
  exact hp
theorem xs_token {post : Int32 → SX → Prop} {x : Int32} (hn : n ≤ 12) (h1 : n = 12 → post (-2) (nI n, pa, is, de, so, nx, mq, xa_r tk, tE, sT, bi, dO, ms, mA, dg)) (h2 : n < 12 → (x < 0 ∨ ¬ x ≤ 18) → post (-1) (nI n, pa, is, de, so, nx, mq, xa_r tk, tE, sT, bi, dO, ms, mA, dg))
    (h3 : ∀ t, n < 12 → t ≤ 18 → x = nI t → post (nI (n + 1)) (nI (n + 1), 0, is, de, 0, nx, mq, xa_r (xa_u tk n t), tE, sT, bi, dO, ms, mA, dg)) : wpX_token post (nI n, pa, is, de, so, nx, mq, xa_r tk, tE, sT, bi, dO, ms, mA, dg) x := by
  unfold wpX_token
  dsimp only
  refine pk_lt n 12 (fun c => ?_) (fun c => h1 (by omega))
  by_cases c1 : x < 0
  · exact br_t c1 (h2 c (Or.inl c1))
  refine br_f c1 ?_
  by_cases c2 : x ≤ 18
  · obtain ⟨t, ht, e⟩ := nI_of2 (M := 18) (n := 18) (by decide) c1 c2
    subst e
    refine br_t c2 ⟨vp_in_nI c (by decide), nm_r (e' := xa_r (xa_u tk n t)) ?_ (nm_r (nI_1 n) ?_)⟩
    · rw [xa_bup (by omega) (by omega), xa_up]
    · refine xs_chg ?_
      exact h3 t c ht rfl
  · exact br_f c2 (h2 c (Or.inr c2))
theorem xs_wipe {post : Int32 → SX → Prop} (hp : post (nI n) (nI 0, 0, is, de, 0, nx, mq, xa_r tk, tE, sT, bi, dO, ms, mA, dg)) : wpX_wipe post (nI n, pa, is, de, so, nx, mq, xa_r tk, tE, sT, bi, dO, ms, mA, dg) := by
  unfold wpX_wipe
  dsimp only
  refine xs_chg (n := 0) ?_
  exact hp
theorem xs_steps0 {post : Int32 → Prop} {x : Int32} (h : x < 0 ∨ nI 6 ≤ x) (hp : post (-1)) : wpX_steps post (nI n, pa, is, de, so, nx, mq, xa_r tk, tE, sT, bi, dO, ms, mA, dg) x := by
  unfold wpX_steps
  dsimp only
  refine xs_is0 h ?_
  exact br_t rfl hp
theorem xs_steps1 {post : Int32 → Prop} {s : Nat} (hs : s < 6) (hp : post (nx s)) : wpX_steps post (nI n, pa, is, de, so, nx, mq, xa_r tk, tE, sT, bi, dO, ms, mA, dg) (nI s) := by
  unfold wpX_steps
  dsimp only
  refine xs_is1 hs ?_
  refine br_f (by decide) ⟨vp_in_nI hs (by decide), ?_⟩
  rw [nI_clamp (by omega)]
  exact hp
/-! binds, termsBehind -/
theorem xs_bi {post : Int32 → Prop} {t : Nat} (ht : t ≤ 18) (h1 : fo_b t → post 1) (h0 : ¬ fo_b t → post 0) : wpX_binds post (nI n, pa, is, de, so, nx, mq, xa_r tk, tE, sT, bi, dO, ms, mA, dg) (nI t) := by
  unfold wpX_binds
  exact pk_lt t 10 (fun c => h0 (by omega)) (fun c => pk_le 16 t (fun d => h0 (by omega)) (fun d => h1 (by omega)))
theorem xs_tb {post : Int32 → Prop} {t : Nat} (ht : t ≤ 18) (hp : post (nI (fo_ar t))) : wpX_termsBehind post (nI n, pa, is, de, so, nx, mq, xa_r tk, tE, sT, bi, dO, ms, mA, dg) (nI t) := by
  unfold wpX_termsBehind
  refine pk_eq t 6 (fun c => ?_) (fun c => pk_eq t 7 (fun d => ?_) (fun d => pk_lt t 8 (fun e => ?_) (fun e => pk_le 16 t (fun f => ?_) (fun f => ?_))))
  · rw [fo_ar2 (Or.inl c)] at hp; exact hp
  · rw [fo_ar2 (Or.inr d)] at hp; exact hp
  · rw [fo_ar0 (by omega)] at hp; exact hp
  · rw [fo_ar0 (by omega)] at hp; exact hp
  · rw [fo_ar1 (by omega) (by omega)] at hp; exact hp
end
end
section
/-! turn, on both sides -/
def tu_t (t : Nat) : Nat := if t < 3 then t + 3 else if t < 6 then t - 3 else if t < 10 then (if t % 2 = 0 then t + 1 else t - 1) else if t < 13 then t + 3 else if t < 16 then t - 3 else t
def tu_a (tk : Nat → Nat) (i : Nat) : Nat → Nat := fun j => if j < i then tu_t (tk j) else tk j
def tu_c (tk : Nat → Nat) : Nat → Nat
  | 0 => 0
  | j + 1 => tu_c tk j + (if tk j < 16 then 1 else 0)
theorem tu_cs {tk : Nat → Nat} {j : Nat} : tu_c tk (j + 1) = tu_c tk j + (if tk j < 16 then 1 else 0) := rfl
theorem tu_cl {tk : Nat → Nat} : ∀ j, tu_c tk j ≤ j := by
  intro j
  induction j with
  | zero => exact Nat.le_refl _
  | succ j ih =>
    rw [tu_cs]
    by_cases c : tk j < 16
    · rw [if_pos c]; omega
    · rw [if_neg c]; omega
theorem tu_18 : ∀ t, t ≤ 18 → tu_t t ≤ 18 := by decide
theorem tu_at {tk : Nat → Nat} {i : Nat} : tu_a tk i i = tk i := if_neg (Nat.lt_irrefl _)
theorem tu_up {tk : Nat → Nat} {i : Nat} : xa_u (tu_a tk i) i (tu_t (tk i)) = tu_a tk (i + 1) := by
  funext j
  unfold xa_u tu_a
  by_cases c : j = i
  · subst c; rw [if_pos rfl, if_pos (by omega)]
  · rw [if_neg c]
    by_cases d : j < i
    · rw [if_pos d, if_pos (by omega)]
    · rw [if_neg d, if_neg (by omega)]
theorem tu_0 {tk : Nat → Nat} : tu_a tk 0 = tk := by
  funext j
  exact if_neg (Nat.not_lt_zero _)
theorem tu_1 {t : Nat} (h : t < 3) : tu_t t = t + 3 := if_pos h
theorem tu_2 {t : Nat} (h1 : 3 ≤ t) (h : t < 6) : tu_t t = t - 3 := by unfold tu_t; rw [if_neg (by omega), if_pos h]
theorem tu_3 {t : Nat} (h1 : 10 ≤ t) (h : t < 13) : tu_t t = t + 3 := by unfold tu_t; rw [if_neg (by omega), if_neg (by omega), if_neg (by omega), if_pos h]
theorem tu_4 {t : Nat} (h1 : 13 ≤ t) (h : t < 16) : tu_t t = t - 3 := by unfold tu_t; rw [if_neg (by omega), if_neg (by omega), if_neg (by omega), if_neg (by omega), if_pos h]
theorem tu_5 {t : Nat} (h1 : 16 ≤ t) : tu_t t = t := by unfold tu_t; rw [if_neg (by omega), if_neg (by omega), if_neg (by omega), if_neg (by omega), if_neg (by omega)]
theorem tu_x : ∀ t, t < 10 → 6 ≤ t → nI t ^^^ 1 = nI (tu_t t) := by decide +kernel
theorem tu_ne : ∀ t, t < 16 → tu_t t ≠ t := by decide
theorem tu_c1 {tk : Nat → Nat} {j : Nat} (h : tk j < 16) : nI (tu_c tk j) + 1 = nI (tu_c tk (j + 1)) := by rw [nI_1, tu_cs, if_pos h]
theorem tu_c0 {tk : Nat → Nat} {j : Nat} (h : ¬ tk j < 16) : tu_c tk (j + 1) = tu_c tk j := by rw [tu_cs, if_neg h]; rfl
theorem tu_upn {tk : Nat → Nat} {i : Nat} (h : 16 ≤ tk i) : tu_a tk (i + 1) = tu_a tk i := by
  rw [← tu_up, tu_5 h]
  funext j
  unfold xa_u
  by_cases c : j = i
  · subst c; rw [if_pos rfl, tu_at]
  · rw [if_neg c]
section
variable {n : Nat} {tk : Nat → Nat} {pa is de so : Int32} {nx mq tE sT bi dO ms mA dg : Nat → Int32}
theorem tu_X {post : Int32 → SX → Prop} (hn : n ≤ 12) (h18 : ∀ i, tk i ≤ 18) (hp : post (nI (tu_c tk n)) (nI n, 0, is, de, 0, nx, mq, xa_r (tu_a tk n), tE, sT, bi, dO, ms, mA, dg)) :
    ∀ d i, i + d = n → wX_turn_4 post (nI n) pa is de so (d + 1) (nI (tu_c tk i)) (nI i) nx mq (xa_r (tu_a tk i)) tE sT bi dO ms mA dg := by
  intro d
  induction d with
  | zero =>
    intro i hi
    have e : i = n := by omega
    subst e
    refine br_t (nI_le (Nat.le_refl _) (by omega)) ?_
    refine xs_chg ?_
    exact hp
  | succ d ih =>
    intro i hi
    have hi12 : i < 12 := by omega
    have t18 := h18 i
    refine br_f (nI_ge (by omega) (by omega)) ⟨vp_in_nI hi12 (by decide), nm_r (e' := nI (tk i)) (by rw [xa_cl (by omega), tu_at]) ?_⟩
    have st : ∀ (y : Int32), y = nI (tu_t (tk i)) → tk i < 16 → (vp_in (nI i) 12 ∧ ∀ a : Nat → Int32, a = upd (xa_r (tu_a tk i)) (nI i).toNatClampNeg (vp_nar .byte y.toInt8.toInt32) → (∀ x : Int32, x = nI i + 1 → wX_turn_4 post (nI n) pa is de so (d + 1) (nI (tu_c tk (i + 1))) x nx mq a tE sT bi dO ms mA dg)) := by
      intro y ey h16
      refine ⟨vp_in_nI hi12 (by decide), nm_r (e' := xa_r (tu_a tk (i + 1))) ?_ (nm_r (nI_1 i) (ih (i + 1) (by omega)))⟩
      have := tu_18 (tk i) t18
      rw [ey, xa_bup (by omega) (by omega), xa_up, tu_up]
    refine pk_lt (tk i) 16 (fun c => nm_r (tu_c1 c) ?_) (fun c => nm_r (nI_1 i) ?_)
    · refine pk_le 6 (tk i) (fun c6 => ?_) (fun c6 => ?_)
      · refine pk_le 10 (tk i) (fun c10 => ?_) (fun c10 => ?_)
        · refine pk_le 13 (tk i) (fun c13 => ?_) (fun c13 => ?_)
          · exact st _ ((pk_sub (b := 3) (by omega)).trans (by rw [tu_4 c13 c])) c
          · exact st _ ((nI_add _ 3).trans (by rw [tu_3 c10 c13])) c
        · exact st _ (tu_x _ c10 c6) c
      · refine pk_le 3 (tk i) (fun c3 => ?_) (fun c3 => ?_)
        · exact st _ ((pk_sub (b := 3) (by omega)).trans (by rw [tu_2 c3 c6])) c
        · exact st _ ((nI_add _ 3).trans (by rw [tu_1 c3])) c
    · have := ih (i + 1) (by omega)
      rw [tu_c0 (by omega), tu_upn c] at this
      exact this
theorem tu_Xw {post : Int32 → SX → Prop} (hn : n ≤ 12) (h18 : ∀ i, tk i ≤ 18) (hp : post (nI (tu_c tk n)) (nI n, 0, is, de, 0, nx, mq, xa_r (tu_a tk n), tE, sT, bi, dO, ms, mA, dg)) : wpX_turn post (nI n, pa, is, de, so, nx, mq, xa_r tk, tE, sT, bi, dO, ms, mA, dg) := by
  unfold wpX_turn
  have := tu_X (pa := pa) (so := so) hn h18 hp n 0 (by omega)
  rw [tu_0] at this
  exact ⟨_, this⟩
end
section
variable {n : Nat} {tk : Nat → Nat} {nx mq en bn fi bo sk : Nat → Int32}
theorem tu_cp {post : Int32 → Prop} {t : Nat} (ht : t ≤ 18) (hp : post (nI (tu_t t))) : wpY_counterpart post (nI n, nx, mq, xa_r tk, en, bn, fi, bo, sk) (nI t) := by
  unfold wpY_counterpart
  refine pk_lt 5 t (fun c => ?_) (fun c => ?_)
  · refine pk_lt 9 t (fun d => ?_) (fun d => ?_)
    · refine pk_lt 15 t (fun e => ?_) (fun e => ?_)
      · rw [tu_5 (by omega)] at hp; exact hp
      · refine pk_le 13 t (fun f => ?_) (fun f => ?_)
        · rw [tu_4 f (by omega), ← pk_sub (by omega)] at hp; exact hp
        · rw [tu_3 (by omega) f, ← nI_add] at hp; exact hp
    · refine ⟨by decide, ?_⟩
      have e6 : tu_t t = if t % 2 = 0 then t + 1 else t - 1 := by
        unfold tu_t; rw [if_neg (by omega), if_neg (by omega), if_pos (by omega)]
      refine pk_eq (t % 2) 0 (fun f => ?_) (fun f => ?_) (pk_rem (d := 2) (by omega) (by decide) (by decide)) 
      · rw [e6, if_pos f, ← nI_add] at hp; exact hp
      · rw [e6, if_neg f, ← pk_sub (by omega)] at hp; exact hp
  · refine pk_le 3 t (fun f => ?_) (fun f => ?_)
    · rw [tu_2 f (by omega), ← pk_sub (by omega)] at hp; exact hp
    · rw [tu_1 f, ← nI_add] at hp; exact hp
theorem tu_Y {post : Int32 → SY → Prop} (hn : n ≤ 12) (h18 : ∀ i, tk i ≤ 18) (hp : post (nI (tu_c tk n)) (nI n, nx, mq, xa_r (tu_a tk n), en, bn, fi, bo, sk)) :
    ∀ d i, i + d = n → wY_turn_4 post (nI n) (d + 1) (nI (tu_c tk i)) (nI i) nx mq (xa_r (tu_a tk i)) en bn fi bo sk := by
  intro d
  induction d with
  | zero =>
    intro i hi
    have e : i = n := by omega
    subst e
    exact br_t (nI_le (Nat.le_refl _) (by omega)) hp
  | succ d ih =>
    intro i hi
    have hi12 : i < 12 := by omega
    have t18 := h18 i
    have t19 := tu_18 (tk i) t18
    refine br_f (nI_ge (by omega) (by omega)) ⟨vp_in_nI hi12 (by decide), ?_⟩
    rw [xa_cl (by omega), tu_at]
    have eu : upd (xa_r (tu_a tk i)) (nI i).toNatClampNeg (nI (tu_t (tk i))) = xa_r (tu_a tk (i + 1)) := by rw [xa_upc (by omega), xa_up, tu_up]
    have ih1 := ih (i + 1) (by omega)
    refine tu_cp (tk := tu_a tk i) t18 ⟨vp_in_nI hi12 (by decide), ?_⟩
    refine pk_eq (tu_t (tk i)) (tk i) (fun c => ?_) (fun c => ?_)
    · have h16 : ¬ tk i < 16 := fun z => tu_ne _ z c
      rw [tu_c0 h16] at ih1
      exact ⟨vp_in_nI hi12 (by decide), nm_r eu (nm_r (nI_1 i) ih1)⟩
    · have h16 : tk i < 16 := by
        rcases Nat.lt_or_ge (tk i) 16 with z | z
        · exact z
        · exact absurd (tu_5 z) c
      exact nm_r (tu_c1 h16) ⟨vp_in_nI hi12 (by decide), nm_r eu (nm_r (nI_1 i) ih1)⟩
theorem tu_Yw {post : Int32 → SY → Prop} (hn : n ≤ 12) (h18 : ∀ i, tk i ≤ 18) (hp : post (nI (tu_c tk n)) (nI n, nx, mq, xa_r (tu_a tk n), en, bn, fi, bo, sk)) : wpY_turn post (nI n, nx, mq, xa_r tk, en, bn, fi, bo, sk) := by
  unfold wpY_turn
  have := tu_Y hn h18 hp n 0 (by omega)
  rw [tu_0] at this
  exact ⟨_, this⟩
end
end
section
/-! the component's findBinder, bindAll -/
def xf_v (f : Nat) : Int32 := if f = 0 then -1 else nI (f - 1)
theorem xf_v0 : xf_v 0 = -1 := if_pos rfl
theorem xf_v1 {f : Nat} (h : f ≠ 0) : xf_v f = nI (f - 1) := if_neg h
section
variable {n : Nat} {tk E : Nat → Nat} {pa is de so : Int32} {nx mq tE sT bi dO ms mA dg : Nat → Int32}
theorem xf_38 {post : Int32 → SX → Prop} {J : Int32 → (Nat → Int32) → (Nat → Int32) → (Nat → Int32) → (Nat → Int32) → (Nat → Int32) → (Nat → Int32) → (Nat → Int32) → (Nat → Int32) → (Nat → Int32) → (Nat → Int32) → Prop}
    {k b : Nat} {x2 z : Int32} (hk : k < 12) (hb : b < k) (hE : tE b = nI (E b)) (hE2 : E b ≤ 12) (hz : (z = 0 ∧ ¬ (tk b + 6 = tk k ∨ tk b + 3 = tk k)) ∨ (¬ z = 0 ∧ (tk b + 6 = tk k ∨ tk b + 3 = tk k)))
    (hJ : J (nI (b + 1)) nx mq (xa_r tk) tE sT (upd bi k (xf_v (fo_fb tk E k (b + 1)))) dO ms mA dg) : wX_findBinder_38 post J (nI k) x2 (nI b) z (nI n) pa is de so nx mq (xa_r tk) tE sT (upd bi k (xf_v (fo_fb tk E k b))) dO ms mA dg := by
  rw [fo_fbs] at hJ
  unfold wX_findBinder_38
  rcases hz with ⟨hz, hm⟩ | ⟨hz, hm⟩
  · rw [if_neg (fun z => hm z.1)] at hJ
    exact br_t hz (nm_r (nI_1 b) hJ)
  · refine br_f hz ⟨vp_in_nI (by omega) (by decide), ?_⟩
    refine pk_le (E b) k (fun c => ?_) (fun c => ?_) (by rw [nI_clamp (by omega), hE])
    · rw [if_neg (fun z => by have := z.2; omega)] at hJ
      exact nm_r (nI_1 b) hJ
    · rw [if_pos ⟨hm, c⟩] at hJ
      refine ⟨vp_in_nI hk (by decide), nm_r (e' := upd bi k (xf_v (b + 1))) ?_ (nm_r (nI_1 b) hJ)⟩
      rw [xa_bup (by omega) (by omega), xa_uu]
      rfl
theorem xf_2 {post : Int32 → SX → Prop} {k : Nat} (hk : k < 12) (h16 : 16 ≤ tk k) (h18 : ∀ i, tk i ≤ 18) (hE : ∀ i, i < k → tE i = nI (E i) ∧ E i ≤ 12)
    (h0 : fo_fb tk E k k = 0 → post 0 (nI n, pa, is, de, so, nx, mq, xa_r tk, tE, sT, upd bi k (-1), dO, ms, mA, dg)) (h1 : fo_fb tk E k k ≠ 0 → post 1 (nI n, pa, is, de, so, nx, mq, xa_r tk, tE, sT, upd bi k (nI (fo_B tk E k)), dO, ms, mA, dg)) :
    ∀ d b, b + d = k → wX_findBinder_2 post (nI k) (nI (tk k - 16)) (nI n) pa is de so (d + 1) (nI b) nx mq (xa_r tk) tE sT (upd bi k (xf_v (fo_fb tk E k b))) dO ms mA dg := by
  intro d
  induction d with
  | zero =>
    intro b hb
    have e : b = k := by omega
    subst e
    refine br_t (nI_le (Nat.le_refl _) (by omega)) ⟨vp_in_nI hk (by decide), ?_⟩
    have ev : upd bi b (xf_v (fo_fb tk E b b)) (nI b).toNatClampNeg = xf_v (fo_fb tk E b b) := by rw [nI_clamp (by omega), pk_us]
    by_cases c : fo_fb tk E b b = 0
    · refine br_t (by rw [ev, c]; decide) ?_
      rw [c]
      exact h0 c
    · have fl := fo_fbl (tk := tk) (E := E) (k := b) b
      refine br_f (by rw [ev, xf_v1 c]; exact nI_pos (by omega)) ?_
      rw [xf_v1 c]
      exact h1 c
  | succ d ih =>
    intro b hb
    have b18 := h18 b
    have k18 := h18 k
    have hEb := hE b (by omega)
    refine br_f (nI_ge (by omega) (by omega)) ⟨vp_in_nI (by omega) (by decide), ?_⟩
    refine pk_eq (tk b) (10 + (tk k - 16)) (fun c => ?_) (fun c => ⟨vp_in_nI (by omega) (by decide), ?_⟩) (xa_cl (by omega)) (nI_add 10 _)
    · exact xf_38 (z := 1) hk (by omega) hEb.1 hEb.2 (Or.inr ⟨by decide, by omega⟩) (ih (b + 1) (by omega))
    · refine pk_eq (tk b) (13 + (tk k - 16)) (fun c2 => ?_) (fun c2 => ?_) (xa_cl (by omega)) (nI_add 13 _)
      · exact xf_38 (z := 1) hk (by omega) hEb.1 hEb.2 (Or.inr ⟨by decide, by omega⟩) (ih (b + 1) (by omega))
      · exact xf_38 (z := 0) hk (by omega) hEb.1 hEb.2 (Or.inl ⟨rfl, by omega⟩) (ih (b + 1) (by omega))
theorem xf_w {post : Int32 → SX → Prop} {k : Nat} (hk : k < 12) (h16 : 16 ≤ tk k) (h18 : ∀ i, tk i ≤ 18) (hE : ∀ i, i < k → tE i = nI (E i) ∧ E i ≤ 12)
    (h0 : fo_fb tk E k k = 0 → post 0 (nI n, pa, is, de, so, nx, mq, xa_r tk, tE, sT, upd bi k (-1), dO, ms, mA, dg)) (h1 : fo_fb tk E k k ≠ 0 → post 1 (nI n, pa, is, de, so, nx, mq, xa_r tk, tE, sT, upd bi k (nI (fo_B tk E k)), dO, ms, mA, dg)) :
    wpX_findBinder post (nI n, pa, is, de, so, nx, mq, xa_r tk, tE, sT, upd bi k (-1), dO, ms, mA, dg) (nI k) (nI (tk k - 16)) := by
  unfold wpX_findBinder
  have := xf_2 hk h16 h18 hE h0 h1 k 0 (by omega)
  exact ⟨_, this⟩
theorem xb_118 {post : Int32 → SX → Prop} {J : Int32 → Int32 → Int32 → Int32 → Int32 → Int32 → Int32 → (Nat → Int32) → (Nat → Int32) → (Nat → Int32) → (Nat → Int32) → (Nat → Int32) → (Nat → Int32) → (Nat → Int32) → (Nat → Int32) → (Nat → Int32) → (Nat → Int32) → Prop}
    {k : Nat} {x1 : Int32} (hk : k < 12) (h18 : ∀ i, tk i ≤ 18) (hE : ∀ i, i < k → tE i = nI (E i) ∧ E i ≤ 12)
    (h0 : 16 ≤ tk k → fo_fb tk E k k = 0 → post 0 (nI n, pa, is, de, so, nx, mq, xa_r tk, tE, sT, upd bi k (-1), dO, ms, mA, dg)) (h1 : 16 ≤ tk k → fo_fb tk E k k ≠ 0 → J x1 (nI (k + 1)) (nI n) pa is de so nx mq (xa_r tk) tE sT (upd bi k (nI (fo_B tk E k))) dO ms mA dg)
    (h2 : tk k < 16 → J x1 (nI (k + 1)) (nI n) pa is de so nx mq (xa_r tk) tE sT (upd bi k (-1)) dO ms mA dg) : wX_bindAll_118 post J x1 (nI k) (nI (tk k)) (nI n) pa is de so nx mq (xa_r tk) tE sT (upd bi k (-1)) dO ms mA dg := by
  have k18 := h18 k
  unfold wX_bindAll_118
  refine pk_lt (tk k) 16 (fun c => nm_r (nI_1 k) (h2 c)) (fun c => ?_)
  rw [show nI (tk k) - 16 = nI (tk k - 16) from pk_sub (b := 16) c]
  refine xf_w hk c h18 hE (fun z => ?_) (fun z => ?_)
  · exact br_t rfl (h0 c z)
  · exact br_f (by decide) (nm_r (nI_1 k) (h1 c z))
theorem xb_28 {post : Int32 → SX → Prop} {J : Int32 → Int32 → Int32 → Int32 → Int32 → Int32 → Int32 → (Nat → Int32) → (Nat → Int32) → (Nat → Int32) → (Nat → Int32) → (Nat → Int32) → (Nat → Int32) → (Nat → Int32) → (Nat → Int32) → (Nat → Int32) → (Nat → Int32) → Prop}
    {k : Nat} (hk : k < 12) (h18 : ∀ i, tk i ≤ 18) (hE : ∀ i, i < k → tE i = nI (E i) ∧ E i ≤ 12) (hdm : fo_dm tk E k ≤ 100)
    (h0 : 16 ≤ tk k → fo_fb tk E k k = 0 → post 0 (nI n, pa, is, nI (fo_dm tk E (k + 1)), so, nx, mq, xa_r tk, tE, sT, upd bi k (-1), upd dO k (nI (fo_dep tk E k)), ms, mA, dg))
    (h1 : 16 ≤ tk k → fo_fb tk E k k ≠ 0 → J (nI (fo_nb tk (k + 1))) (nI (k + 1)) (nI n) pa is (nI (fo_dm tk E (k + 1))) so nx mq (xa_r tk) tE sT (upd bi k (nI (fo_B tk E k))) (upd dO k (nI (fo_dep tk E k))) ms mA dg)
    (h2 : tk k < 16 → J (nI (fo_nb tk (k + 1))) (nI (k + 1)) (nI n) pa is (nI (fo_dm tk E (k + 1))) so nx mq (xa_r tk) tE sT (upd bi k (-1)) (upd dO k (nI (fo_dep tk E k))) ms mA dg) :
    ∀ d b, b + d = k → wX_bindAll_28 post J (nI (fo_nb tk k)) (nI k) (nI n) pa is (nI (fo_dm tk E k)) so (d + 1) (nI b) nx mq (xa_r tk) tE sT (upd bi k (-1)) (upd dO k (nI (fo_dp tk E k b))) ms mA dg := by
  have nbk : ∀ j, fo_nb tk j ≤ j := by
    intro j
    induction j with
    | zero => exact Nat.le_refl _
    | succ j ih =>
      rw [fo_nbs]
      by_cases c : fo_b (tk j)
      · rw [if_pos c]; omega
      · rw [if_neg c]; omega
  intro d
  induction d with
  | zero =>
    intro b hb
    have e : b = k := by omega
    subst e
    have b18 := h18 b
    have dl := fo_dpn (tk := tk) (E := E) (k := b) b
    have dl2 := nbk b
    refine br_t (nI_le (Nat.le_refl _) (by omega)) ⟨vp_in_nI hk (by decide), nm_r (xa_cl (by omega)) ?_⟩
    rw [fo_nbs, fo_dms] at h1 h2
    rw [fo_dms] at h0
    have ev : upd dO b (nI (fo_dp tk E b b)) (nI b).toNatClampNeg = nI (fo_dep tk E b) := by rw [nI_clamp (by omega), pk_us]; rfl
    refine xs_bi b18 (fun c => ?_) (fun c => ?_)
    · refine br_f (by decide) (nm_r (nI_1 _) ⟨vp_in_nI hk (by decide), ?_⟩)
      have c16 : tk b < 16 := c.2
      have h2 := h2 c16
      rw [if_pos c, if_pos c] at h2
      refine pk_le (fo_dep tk E b + 1) (fo_dm tk E b) (fun q => ?_) (fun q => ⟨vp_in_nI hk (by decide), nm_r (e' := nI (fo_dep tk E b + 1)) (by rw [ev, nI_1]) ?_⟩) (by rw [ev, nI_1]) rfl (by unfold fo_dep; omega)
      · rw [if_pos q] at h2
        exact xb_118 hk h18 hE (fun z => by omega) (fun z => by omega) (fun _ => h2)
      · rw [if_neg (by omega)] at h2
        exact xb_118 hk h18 hE (fun z => by omega) (fun z => by omega) (fun _ => h2)
    · refine br_t rfl ?_
      rw [if_neg c, if_neg c, Nat.add_zero] at h1 h2
      rw [if_neg c] at h0
      exact xb_118 hk h18 hE h0 h1 h2
  | succ d ih =>
    intro b hb
    have b18 := h18 b
    have hEb := hE b (by omega)
    have dl := fo_dpn (tk := tk) (E := E) (k := k) b
    have dl2 := nbk b
    have ih1 := ih (b + 1) (by omega)
    rw [fo_dps] at ih1
    refine br_f (nI_ge (by omega) (by omega)) ⟨vp_in_nI (by omega) (by decide), ?_⟩
    rw [xa_cl (by omega)]
    refine xs_bi b18 (fun c => ?_) (fun c => ?_)
    · refine br_f (by decide) ⟨vp_in_nI (by omega) (by decide), ?_⟩
      refine pk_le (E b) k (fun q => ?_) (fun q => ⟨vp_in_nI hk (by decide), vp_in_nI hk (by decide), nm_r (e' := upd dO k (nI (fo_dp tk E k b + 1))) ?_ ?_⟩) (by rw [nI_clamp (by omega), hEb.1])
      · rw [if_neg (fun z => by have := z.2; omega), Nat.add_zero] at ih1
        exact nm_r (nI_1 b) ih1
      · rw [nI_clamp (by omega), pk_us, nI_1, xa_by (by omega), xa_uu]
      · rw [if_pos ⟨c, q⟩] at ih1
        exact nm_r (nI_1 b) ih1
    · rw [if_neg (fun z => c z.1), Nat.add_zero] at ih1
      exact br_t rfl (nm_r (nI_1 b) ih1)
theorem xb_4 {post : Int32 → SX → Prop} (hn : n ≤ 12) (h18 : ∀ i, tk i ≤ 18) (hE : ∀ i, i < n → tE i = nI (E i) ∧ E i ≤ 12)
    (hbad : ∀ de bi dO, ¬ ((∀ i, i < n → 16 ≤ tk i → fo_fb tk E i i ≠ 0) ∧ fo_nb tk n ≤ 4) → post 0 (nI n, pa, is, de, so, nx, mq, xa_r tk, tE, sT, bi, dO, ms, mA, dg))
    (hgood : ∀ bi dO, (∀ i, i < n → dO i = nI (fo_dep tk E i)) → (∀ i, i < n → 16 ≤ tk i → fo_fb tk E i i ≠ 0 ∧ bi i = nI (fo_B tk E i)) → fo_nb tk n ≤ 4 → post 1 (nI n, pa, is, nI (fo_dm tk E n), so, nx, mq, xa_r tk, tE, sT, bi, dO, ms, mA, dg)) :
    ∀ d k, k + d = n → ∀ bi dO, (∀ i, i < k → dO i = nI (fo_dep tk E i)) → (∀ i, i < k → 16 ≤ tk i → fo_fb tk E i i ≠ 0 ∧ bi i = nI (fo_B tk E i)) →
    wX_bindAll_4 post (d + 1) (nI (fo_nb tk k)) (nI k) (nI n) pa is (nI (fo_dm tk E k)) so nx mq (xa_r tk) tE sT bi dO ms mA dg := by
  have nbk : ∀ j, fo_nb tk j ≤ j := by
    intro j
    induction j with
    | zero => exact Nat.le_refl _
    | succ j ih =>
      rw [fo_nbs]
      by_cases c : fo_b (tk j)
      · rw [if_pos c]; omega
      · rw [if_neg c]; omega
  have dmk : ∀ j, fo_dm tk E j ≤ j := by
    intro j
    induction j with
    | zero => exact Nat.le_refl _
    | succ j ih =>
      have a := fo_dpn (tk := tk) (E := E) (k := j) j
      have b := nbk j
      rw [fo_dms]
      by_cases c : fo_b (tk j)
      · rw [if_pos c]
        by_cases c2 : fo_dep tk E j + 1 ≤ fo_dm tk E j
        · rw [if_pos c2]; omega
        · rw [if_neg c2]; unfold fo_dep; omega
      · rw [if_neg c]; omega
  intro d
  induction d with
  | zero =>
    intro k hk bi dO h1 h2
    have e : k = n := by omega
    subst e
    have nk := nbk k
    refine br_t (nI_le (Nat.le_refl _) (by omega)) ?_
    refine pk_lt 4 (fo_nb tk k) (fun c => ?_) (fun c => ?_)
    · exact hbad _ _ _ (fun z => by have := z.2; omega)
    · exact hgood _ _ h1 h2 c
  | succ d ih =>
    intro k hk bi dO h1 h2
    have k12 : k < 12 := by omega
    have dk := dmk k
    refine br_f (nI_ge (by omega) (by omega)) ⟨vp_in_nI k12 (by decide), nm_r (e' := upd dO k (nI 0)) (by rw [nI_clamp (by omega), xa_b0]) ⟨vp_in_nI k12 (by decide), nm_r (e' := upd bi k (-1)) (by rw [nI_clamp (by omega), xa_bm]) ⟨k + 1, ?_⟩⟩⟩
    have hd : ∀ i, i < k + 1 → upd dO k (nI (fo_dep tk E k)) i = nI (fo_dep tk E i) := by
      intro i hi
      by_cases c : i = k
      · subst c; exact pk_us
      · rw [pk_un c]; exact h1 i (by omega)
    have hb : ∀ x : Int32, (16 ≤ tk k → fo_fb tk E k k ≠ 0 ∧ x = nI (fo_B tk E k)) → ∀ i, i < k + 1 → 16 ≤ tk i → fo_fb tk E i i ≠ 0 ∧ upd bi k x i = nI (fo_B tk E i) := by
      intro x hx i hi h16
      by_cases c : i = k
      · subst c; rw [pk_us]; exact hx h16
      · rw [pk_un c]; exact h2 i (by omega) h16
    refine xb_28 k12 h18 (fun i hi => hE i (by omega)) (by omega) (fun z0 z => ?_) (fun z0 z => ?_) (fun z0 => ?_) k 0 (by omega)
    · exact hbad _ _ _ (fun y => y.1 k (by omega) z0 z)
    · exact ih (k + 1) (by omega) _ _ hd (hb _ (fun _ => ⟨z, rfl⟩))
    · exact ih (k + 1) (by omega) _ _ hd (hb _ (fun y => by omega))
theorem xb_w {post : Int32 → SX → Prop} (hn : n ≤ 12) (h18 : ∀ i, tk i ≤ 18) (hE : ∀ i, i < n → tE i = nI (E i) ∧ E i ≤ 12)
    (hbad : ∀ de bi dO, ¬ ((∀ i, i < n → 16 ≤ tk i → fo_fb tk E i i ≠ 0) ∧ fo_nb tk n ≤ 4) → post 0 (nI n, pa, is, de, so, nx, mq, xa_r tk, tE, sT, bi, dO, ms, mA, dg))
    (hgood : ∀ bi dO, (∀ i, i < n → dO i = nI (fo_dep tk E i)) → (∀ i, i < n → 16 ≤ tk i → fo_fb tk E i i ≠ 0 ∧ bi i = nI (fo_B tk E i)) → fo_nb tk n ≤ 4 → post 1 (nI n, pa, is, nI (fo_dm tk E n), so, nx, mq, xa_r tk, tE, sT, bi, dO, ms, mA, dg)) :
    wpX_bindAll post (nI n, pa, is, 0, so, nx, mq, xa_r tk, tE, sT, bi, dO, ms, mA, dg) := by
  unfold wpX_bindAll
  exact ⟨n + 1, xb_4 hn h18 hE hbad hgood n 0 (by omega) bi dO (fun i hi => absurd hi (Nat.not_lt_zero _)) (fun i hi => absurd hi (Nat.not_lt_zero _))⟩
end
end
section
/-! the component's parse -/
theorem xp_ext {tk E : Nat → Nat} {n k e : Nat} (h : fo_wf tk n E (k + 1)) (hk : k < n) (h1 : k < e) (h2 : e ≤ n) (ha : fo_at tk n (xa_u E k e) k) : fo_wf tk n (xa_u E k e) k := by
  intro i hi hin
  by_cases c : i = k
  · subst c
    rw [xa_us]
    exact ⟨h1, h2, ha⟩
  · obtain ⟨p1, p2, p3, p4, p5⟩ := h i (by omega) hin
    have e1 : xa_u E k e (i + 1) = E (i + 1) := xa_un (by omega)
    unfold fo_at
    rw [xa_un c, e1]
    refine ⟨p1, p2, p3, p4, fun ar => ?_⟩
    obtain ⟨a1, a2, a3⟩ := p5 ar
    have g := (h (i + 1) (by omega) a1).1
    rw [xa_un (by omega)]
    exact ⟨a1, a2, a3⟩
theorem xp_no1 {tk E : Nat → Nat} {n k : Nat} (hk : k < n) (ar : fo_ar (tk k) ≠ 0) (hb : n ≤ k + 1) : ¬ ∃ E', fo_Sd tk n E' := by
  intro ⟨E', z⟩
  have := fo_e5 z.2.1 hk ar
  omega
theorem xp_no2 {tk E : Nat → Nat} {n k : Nat} (h : fo_wf tk n E (k + 1)) (hk : k < n) (ar : fo_ar (tk k) = 2) (hb : n ≤ E (k + 1)) : ¬ ∃ E', fo_Sd tk n E' := by
  intro ⟨E', z⟩
  have q := fo_e6 z.2.1 hk ar
  have h' : fo_wf tk n E' (k + 1) := fun i a b => z.2.1 i (Nat.zero_le _) b
  have := fo_uq h h' n (k + 1) (by omega) (Nat.le_refl _) q.1
  omega
theorem xp_sd {tk E : Nat → Nat} {n : Nat} (h : fo_wf tk n E 0) (h0 : 0 < n) (he : E 0 = n) (hc : (∀ i, i < n → 16 ≤ tk i → fo_fb tk E i i ≠ 0) ∧ fo_nb tk n ≤ 4) (hz : ∀ i, n ≤ i → E i = 0) : fo_Sd tk n E := ⟨hz, h, h0, he, hc⟩
/-- ends beyond n set to 0: the canonical ones -/
def xp_z (E : Nat → Nat) (n : Nat) : Nat → Nat := fun i => if i < n then E i else 0
theorem xp_z1 {E : Nat → Nat} {n i : Nat} (h : i < n) : xp_z E n i = E i := if_pos h
theorem xp_zw {tk E : Nat → Nat} {n : Nat} (h : fo_wf tk n E 0) : fo_wf tk n (xp_z E n) 0 := by
  intro i hi hin
  obtain ⟨p1, p2, p3, p4, p5⟩ := h i hi hin
  unfold fo_at
  rw [xp_z1 hin]
  refine ⟨p1, p2, p3, fun ar => ?_, fun ar => ?_⟩
  · obtain ⟨a1, a2⟩ := p4 ar
    rw [xp_z1 a1]; exact ⟨a1, a2⟩
  · obtain ⟨a1, a2, a3⟩ := p5 ar
    rw [xp_z1 a1, xp_z1 a2]; exact ⟨a1, a2, a3⟩
section
variable {n : Nat} {tk E : Nat → Nat} {pa is de so : Int32} {nx mq tE sT bi dO ms mA dg : Nat → Int32}
theorem xp_fin {post : SX → Prop} {J : Int32 → (Nat → Int32) → (Nat → Int32) → (Nat → Int32) → (Nat → Int32) → (Nat → Int32) → (Nat → Int32) → (Nat → Int32) → (Nat → Int32) → (Nat → Int32) → (Nat → Int32) → Prop}
    {k e N : Nat} {x2 x4 : Int32} (hx : x2 ≤ x4) (hk : k < 12) (he : e < 128) (hJ : J (nI k + (-1)) nx mq (xa_r tk) (upd tE k (nI e)) sT bi dO ms mA dg) : wX_parse_52 post J (nI k) x2 (nI n) pa is de so (N + 1) (nI e) x4 nx mq (xa_r tk) tE sT bi dO ms mA dg :=
  br_t hx ⟨vp_in_nI hk (by decide), nm_r (xa_bup (by omega) he) (nm_e hJ)⟩
theorem xp_go {post : SX → Prop} {J : Int32 → (Nat → Int32) → (Nat → Int32) → (Nat → Int32) → (Nat → Int32) → (Nat → Int32) → (Nat → Int32) → (Nat → Int32) → (Nat → Int32) → (Nat → Int32) → (Nat → Int32) → Prop}
    {k e N : Nat} {x2 x4 : Int32} (hx : ¬ x2 ≤ x4) (hk : k < 12) (he : e < n) (hn : n ≤ 12) (h : wX_parse_52 post J (nI k) x2 (nI n) pa is de so N (tE e) (x4 + 1) nx mq (xa_r tk) tE (upd sT k (nI e)) bi dO ms mA dg) : wX_parse_52 post J (nI k) x2 (nI n) pa is de so (N + 1) (nI e) x4 nx mq (xa_r tk) tE sT bi dO ms mA dg :=
  br_f hx (br_t (nI_lt he (by omega)) ⟨vp_in_nI hk (by decide), nm_r (xa_bup (by omega) (by omega)) ⟨vp_in_nI (by omega) (by decide), nm_r (xa_cla (by omega)) (nm_e h)⟩⟩)
theorem xp_fail {post : SX → Prop} {J : Int32 → (Nat → Int32) → (Nat → Int32) → (Nat → Int32) → (Nat → Int32) → (Nat → Int32) → (Nat → Int32) → (Nat → Int32) → (Nat → Int32) → (Nat → Int32) → (Nat → Int32) → Prop}
    {k e N : Nat} {x2 x4 : Int32} (hx : ¬ x2 ≤ x4) (he : n ≤ e) (he2 : e < 128) (h : post (nI n, pa, is, de, so, nx, mq, xa_r tk, tE, sT, bi, dO, ms, mA, dg)) : wX_parse_52 post J (nI k) x2 (nI n) pa is de so (N + 1) (nI e) x4 nx mq (xa_r tk) tE sT bi dO ms mA dg :=
  br_f hx (br_f (nI_nlt he (by omega)) h)
/-- what a sound parse leaves in the arrays -/
def xp_ok (tk : Nat → Nat) (n : Nat) (E : Nat → Nat) (tE sT bi dO : Nat → Int32) : Prop :=
  (∀ i, i < n → tE i = nI (E i)) ∧ (∀ i, i < n → fo_ar (tk i) = 2 → sT i = nI (E (i + 1))) ∧ (∀ i, i < n → 16 ≤ tk i → bi i = nI (fo_B tk E i)) ∧ (∀ i, i < n → dO i = nI (fo_dep tk E i))
theorem xp_30 {post : SX → Prop} (hn : n ≤ 12) (h18 : ∀ i, tk i ≤ 18)
    (hbad : ∀ de tE sT bi dO, (¬ ∃ E', fo_Sd tk n E') → post (nI n, 1, 0, de, so, nx, mq, xa_r tk, tE, sT, bi, dO, ms, mA, dg))
    (hgood : ∀ E tE sT bi dO, fo_Sd tk n E → xp_ok tk n E tE sT bi dO → post (nI n, 1, 1, nI (fo_dm tk E n), so, nx, mq, xa_r tk, tE, sT, bi, dO, ms, mA, dg)) :
    ∀ k, k ≤ n → ∀ E tE sT, fo_wf tk n E k → (∀ i, k ≤ i → i < n → tE i = nI (E i)) → (∀ i, k ≤ i → i < n → fo_ar (tk i) = 2 → sT i = nI (E (i + 1))) →
    ∀ N, k < N → wX_parse_30 post (nI n) 1 0 0 so N (nI k + (-1)) nx mq (xa_r tk) tE sT bi dO ms mA dg := by
  intro k
  induction k with
  | zero =>
    intro hk E tE sT hw h1 h2 N hN
    obtain ⟨N, rfl⟩ : ∃ M, N = M + 1 := ⟨N - 1, by omega⟩
    refine br_t xa_m0 ?_
    refine pk_eq n 0 (fun c => ?_) (fun c => ?_)
    · exact hbad _ _ _ _ _ (fun ⟨E', z⟩ => by have := z.2.2.1; omega)
    · have h0 : 0 < n := by omega
      have e0 := (hw 0 (Nat.le_refl _) h0).2.1
      have zw := xp_zw hw
      refine pk_eq (E 0) n (fun c2 => ?_) (fun c2 => ?_) (h1 0 (Nat.le_refl _) h0)
      · refine xb_w (E := xp_z E n) hn h18 (fun i hi => ?_) (fun de bi dO z => ?_) (fun bi dO q1 q2 q3 => ?_)
        · have := (hw i (Nat.zero_le _) hi).2.1
          rw [xp_z1 hi]
          exact ⟨h1 i (Nat.zero_le _) hi, by omega⟩
        · refine ⟨narrow_b0, rfl, ?_⟩
          refine hbad _ _ _ _ _ (fun ⟨E', y⟩ => z ?_)
          have : xp_z E n = E' := by
            funext i
            rcases Nat.lt_or_ge i n with q | q
            · exact fo_uq zw y.2.1 n i (by omega) (Nat.zero_le _) q
            · rw [y.1 i q]; exact if_neg (by omega)
          rw [this]
          exact y.2.2.2.2
        · refine ⟨narrow_b1, rfl, ?_⟩
          have sd : fo_Sd tk n (xp_z E n) := ⟨fun i hi => if_neg (by omega), zw, h0, by rw [xp_z1 h0]; exact c2, fun i hi h16 => (q2 i hi h16).1, q3⟩
          refine hgood _ _ _ _ _ sd ⟨fun i hi => ?_, fun i hi ar => ?_, fun i hi h16 => (q2 i hi h16).2, q1⟩
          · rw [xp_z1 hi]; exact h1 i (Nat.zero_le _) hi
          · rw [xp_z1 (fo_e6 zw hi ar).1]; exact h2 i (Nat.zero_le _) hi ar
      · refine hbad _ _ _ _ _ (fun ⟨E', z⟩ => ?_)
        have := fo_uq hw z.2.1 n 0 (by omega) (Nat.le_refl _) h0
        have := z.2.2.2.1
        omega
  | succ k ih =>
    intro hk E tE sT hw h1 h2 N hN
    obtain ⟨N, rfl⟩ : ∃ M, N = M + 1 := ⟨N - 1, by omega⟩
    have k12 : k < 12 := by omega
    have kn : k < n := by omega
    rw [pk_m1]
    refine br_f (nI_pos (by omega)) ⟨vp_in_nI k12 (by decide), ?_⟩
    rw [xa_cl (by omega)]
    -- the end of the step, for an end e
    have fin : ∀ e sT', k < e → e ≤ n → fo_at tk n (xa_u E k e) k → (∀ i, k + 1 ≤ i → sT' i = sT i) → (fo_ar (tk k) = 2 → sT' k = nI (E (k + 1))) →
        wX_parse_30 post (nI n) 1 0 0 so N (nI k + (-1)) nx mq (xa_r tk) (upd tE k (nI e)) sT' bi dO ms mA dg := by
      intro e sT' e1 e2 ha hs1 hs2
      refine ih (by omega) (xa_u E k e) _ _ (xp_ext hw kn e1 e2 ha) (fun i hi hin => ?_) (fun i hi hin ar => ?_) N (by omega)
      · by_cases c : i = k
        · subst c; rw [pk_us, xa_us]
        · rw [pk_un c, xa_un c]; exact h1 i (by omega) hin
      · rw [xa_un (by omega)]
        by_cases c : i = k
        · subst c; exact hs2 ar
        · rw [hs1 i (by omega)]; exact h2 i (by omega) hin ar
    refine xs_tb (h18 k) (nm_r (nI_1 k) ⟨3, ?_⟩)
    rcases fo_ar3 (tk k) with ar | ar | ar
    · rw [ar]
      refine xp_fin (by decide) k12 (by omega) ?_
      refine fin (k + 1) sT (by omega) (by omega) ⟨fun _ => xa_us, fun z => by omega, fun z => by omega⟩ (fun i _ => rfl) (fun z => by omega)
    · rw [ar]
      rcases Nat.lt_or_ge (k + 1) n with c | c
      · refine xp_go (by decide) k12 c hn ?_
        have q := hw (k + 1) (Nat.le_refl _) c
        have q1 := q.1
        have q2 := q.2.1
        rw [h1 (k + 1) (Nat.le_refl _) c]
        refine xp_fin (by decide) k12 (by omega) ?_
        refine fin (E (k + 1)) _ (by omega) (by omega) ⟨fun z => by omega, fun _ => ⟨c, by rw [xa_us, xa_un (by omega)]⟩, fun z => by omega⟩ (fun i hi => pk_un (by omega)) (fun z => by omega)
      · refine xp_fail (by decide) c (by omega) ?_
        exact hbad _ _ _ _ _ (xp_no1 (E := E) kn (by omega) c)
    · rw [ar]
      rcases Nat.lt_or_ge (k + 1) n with c | c
      · refine xp_go (by decide) k12 c hn ?_
        have q := hw (k + 1) (Nat.le_refl _) c
        have q1 := q.1
        have q2 := q.2.1
        rw [h1 (k + 1) (Nat.le_refl _) c]
        rcases Nat.lt_or_ge (E (k + 1)) n with c2 | c2
        · refine xp_go (by decide) k12 c2 hn ?_
          have r := hw (E (k + 1)) (by omega) c2
          have r1 := r.1
          have r2 := r.2.1
          rw [h1 (E (k + 1)) (by omega) c2]
          refine xp_fin (by decide) k12 (by omega) ?_
          refine fin (E (E (k + 1))) _ (by omega) (by omega) ⟨fun z => by omega, fun z => by omega, fun _ => ⟨c, ?_, ?_⟩⟩ (fun i hi => by rw [pk_un (by omega), pk_un (by omega)]) (fun _ => pk_us)
          · rw [xa_un (by omega)]; exact c2
          · have g : xa_u E k (E (E (k + 1))) (k + 1) = E (k + 1) := xa_un (by omega)
            rw [xa_us, g, xa_un (by omega)]
        · refine xp_fail (by decide) c2 (by omega) ?_
          exact hbad _ _ _ _ _ (xp_no2 hw kn ar c2)
      · refine xp_fail (by decide) c (by omega) ?_
        exact hbad _ _ _ _ _ (xp_no1 (E := E) kn (by omega) c)
theorem xp_w0 {post : SX → Prop} (hn : n ≤ 12) (h18 : ∀ i, tk i ≤ 18)
    (hbad : ∀ de tE sT bi dO, (¬ ∃ E', fo_Sd tk n E') → post (nI n, 1, 0, de, so, nx, mq, xa_r tk, tE, sT, bi, dO, ms, mA, dg))
    (hgood : ∀ E tE sT bi dO, fo_Sd tk n E → xp_ok tk n E tE sT bi dO → post (nI n, 1, 1, nI (fo_dm tk E n), so, nx, mq, xa_r tk, tE, sT, bi, dO, ms, mA, dg)) : wpX_parse post (nI n, 0, is, de, so, nx, mq, xa_r tk, tE, sT, bi, dO, ms, mA, dg) := by
  unfold wpX_parse
  refine br_t rfl (nm_r (xa_s1 _) ⟨n + 1, ?_⟩)
  exact xp_30 hn h18 hbad hgood n (Nat.le_refl _) (fun _ => 0) tE sT (fun i a b => by omega) (fun i a b => by omega) (fun i a b => by omega) (n + 1) (by omega)
theorem xp_w1 {post : SX → Prop} (hp : ¬ pa = 0) (h : post (nI n, pa, is, de, so, nx, mq, xa_r tk, tE, sT, bi, dO, ms, mA, dg)) : wpX_parse post (nI n, pa, is, de, so, nx, mq, xa_r tk, tE, sT, bi, dO, ms, mA, dg) := by
  unfold wpX_parse
  exact br_f hp h
end
end
section
/-! the component's countLeast, unpack, before -/
section
variable {n : Nat} {tk E : Nat → Nat} {pa is de so : Int32} {nx mq tE sT bi dO ms mA dg : Nat → Int32}
theorem xc_22 {post : SX → Prop} (hn : n ≤ 12) (h18 : ∀ i, tk i ≤ 18) (hd : ∀ i, i < n → dO i = nI (fo_dep tk E i)) (h4 : fo_nb tk n ≤ 4)
    (hp : ∀ mA, (∀ d, d < 4 → mA d = nI (me_c tk E n d)) → post (nI n, pa, is, de, so, nx, mq, xa_r tk, tE, sT, bi, dO, ms, mA, dg)) :
    ∀ d k, k + d = n → ∀ mA, (∀ j, j < 4 → mA j = nI (fo_ma tk E j k)) → wX_countLeast_22 post (nI n) pa is de so (d + 1) (nI k) nx mq (xa_r tk) tE sT bi dO ms mA dg := by
  intro d
  induction d with
  | zero =>
    intro k hk mA hm
    have e : k = n := by omega
    subst e
    exact br_t (nI_le (Nat.le_refl _) (by omega)) (hp _ hm)
  | succ d ih =>
    intro k hk mA hm
    have k18 := h18 k
    have kn : k < n := by omega
    have k12 : k < 12 := by omega
    have nomatch1 : ¬ (10 ≤ tk k ∧ tk k < 13) → ∀ j, j < 4 → mA j = nI (fo_ma tk E j (k + 1)) := by
      intro z j hj
      rw [fo_mas, if_neg (fun y => z ⟨y.1, y.2.1⟩), Nat.add_zero]
      exact hm j hj
    refine br_f (nI_ge (by omega) (by omega)) ⟨vp_in_nI k12 (by decide), ?_⟩
    refine pk_lt (tk k) 10 (fun c => nm_r (nI_1 k) (ih (k + 1) (by omega) mA (nomatch1 (by omega)))) (fun c => ⟨vp_in_nI k12 (by decide), ?_⟩) (xa_cl (by omega))
    refine pk_le 13 (tk k) (fun c2 => nm_r (nI_1 k) (ih (k + 1) (by omega) mA (nomatch1 (by omega)))) (fun c2 => ⟨vp_in_nI k12 (by decide), ?_⟩) rfl (xa_cl (by omega))
    have d3 := fo_d5 (E := E) h4 kn ⟨c, by omega⟩
    have ml := fo_mal (tk := tk) (E := E) (d := fo_dep tk E k) k
    have e : n = k + (n - k) := by omega
    have nm := fo_nbm (tk := tk) (j := k) (n - k)
    rw [← e] at nm
    have ed : dO (nI k).toNatClampNeg = nI (fo_dep tk E k) := by rw [nI_clamp (by omega)]; exact hd k kn
    rw [ed]
    refine ⟨vp_in_nI (by omega) (by decide), vp_in_nI (by omega) (by decide), nm_r (e' := upd mA (fo_dep tk E k) (nI (fo_ma tk E (fo_dep tk E k) k + 6))) ?_ (nm_r (nI_1 k) (ih (k + 1) (by omega) _ ?_))⟩
    · rw [nI_clamp (by omega), hm _ (by omega), show nI (fo_ma tk E (fo_dep tk E k) k) + 6 = nI (fo_ma tk E (fo_dep tk E k) k + 6) from nI_add _ 6, xa_by (by omega)]
    · intro j hj
      rw [fo_mas]
      by_cases q : j = fo_dep tk E k
      · subst q
        rw [pk_us, if_pos ⟨c, c2, rfl⟩]
      · rw [pk_un q, if_neg (fun y => q y.2.2.symm), Nat.add_zero]
        exact hm j hj
theorem xc_2 {post : SX → Prop} (hn : n ≤ 12) (h18 : ∀ i, tk i ≤ 18) (hd : ∀ i, i < n → dO i = nI (fo_dep tk E i)) (h4 : fo_nb tk n ≤ 4)
    (hp : ∀ mA, (∀ d, d < 4 → mA d = nI (me_c tk E n d)) → post (nI n, pa, is, de, so, nx, mq, xa_r tk, tE, sT, bi, dO, ms, mA, dg)) :
    ∀ d k, k + d = 4 → ∀ mA, (∀ j, j < k → mA j = nI 0) → wX_countLeast_2 post (nI n) pa is de so (d + 1) (nI k) nx mq (xa_r tk) tE sT bi dO ms mA dg := by
  intro d
  induction d with
  | zero =>
    intro k hk mA hm
    refine br_t (nI_le (a := 4) (by omega) (by omega)) ⟨n + 1, ?_⟩
    exact xc_22 hn h18 hd h4 hp n 0 (by omega) mA (fun j hj => hm j (by omega))
  | succ d ih =>
    intro k hk mA hm
    refine br_f (nI_ge (b := 4) (by omega) (by decide)) ⟨vp_in_nI (by omega) (by decide), nm_r (e' := upd mA k (nI 0)) (by rw [nI_clamp (by omega), xa_b0]) (nm_r (nI_1 k) (ih (k + 1) (by omega) _ ?_))⟩
    intro j hj
    by_cases q : j = k
    · subst q; exact pk_us
    · rw [pk_un q]; exact hm j (by omega)
theorem xc_w {post : SX → Prop} (hn : n ≤ 12) (h18 : ∀ i, tk i ≤ 18) (hd : ∀ i, i < n → dO i = nI (fo_dep tk E i)) (h4 : fo_nb tk n ≤ 4)
    (hp : ∀ mA, (∀ d, d < 4 → mA d = nI (me_c tk E n d)) → post (nI n, pa, is, de, so, nx, mq, xa_r tk, tE, sT, bi, dO, ms, mA, dg)) : wpX_countLeast post (nI n, pa, is, de, so, nx, mq, xa_r tk, tE, sT, bi, dO, ms, mA, dg) := by
  unfold wpX_countLeast
  exact ⟨5, xc_2 hn h18 hd h4 hp 4 0 (by omega) mA (fun j hj => absurd hj (Nat.not_lt_zero _))⟩
/-! digits -/
def xd_R (dg : Nat → Int32) (a : Nat → Nat) : Prop := ∀ i, i < 4 → dg i = nI (a i)
theorem xd_up {dg : Nat → Int32} {a : Nat → Nat} {j v : Nat} (h : xd_R dg a) : xd_R (upd dg j (nI v)) (xa_u a j v) := by
  intro i hi
  by_cases c : i = j
  · subst c; rw [pk_us, xa_us]
  · rw [pk_un c, xa_un c]; exact h i hi
theorem xu_s {post : SX → Prop} {N m j : Nat} (hj : j < 4) (hm : m < 1000000) (h : wX_unpack_4 post (nI n) pa is de so N (nI (m / 25)) (nI j + (-1)) nx mq (xa_r tk) tE sT bi dO ms mA (upd dg j (nI (m % 25)))) : wX_unpack_4 post (nI n) pa is de so (N + 1) (nI m) (nI j) nx mq (xa_r tk) tE sT bi dO ms mA dg := by
  refine br_f (nI_pos (by omega)) ⟨by decide, vp_in_nI hj (by decide), nm_r (e' := upd dg j (nI (m % 25))) ?_ ⟨by decide, nm_r (e' := nI (m / 25)) ?_ (nm_e h)⟩⟩
  · have e : nI m - nI m / 25 * 25 = nI (m % 25) := pk_rem (d := 25) (by omega) (by decide) (by decide)
    rw [nI_clamp (by omega), e, xa_by (by omega)]
  · exact pk_div (d := 25) (by omega) (by decide) (by decide)
def xd_a (m : Nat) : Nat → Nat := fun i => if i = 0 then m / 15625 else if i = 1 then m / 625 % 25 else if i = 2 then m / 25 % 25 else m % 25
theorem xu_w {post : SX → Prop} {m : Nat} (hm : m < 390625) (h : ∀ dg, xd_R dg (xd_a m) → post (nI n, pa, is, de, so, nx, mq, xa_r tk, tE, sT, bi, dO, ms, mA, dg)) : wpX_unpack post (nI n, pa, is, de, so, nx, mq, xa_r tk, tE, sT, bi, dO, ms, mA, dg) (nI m) := by
  unfold wpX_unpack
  refine ⟨5, ?_⟩
  refine xu_s (j := 3) (by decide) (by omega) ?_
  refine xu_s (j := 2) (by decide) (by omega) ?_
  refine xu_s (j := 1) (by decide) (by omega) ?_
  refine xu_s (j := 0) (by decide) (by omega) ?_
  refine br_t xa_m0 (h _ ?_)
  intro i hi
  rcases (by omega : i = 0 ∨ i = 1 ∨ i = 2 ∨ i = 3) with rfl | rfl | rfl | rfl
  · rw [pk_us]
    exact congrArg nI (by show m / 25 / 25 / 25 % 25 = m / 15625; omega)
  · rw [pk_un (by decide), pk_us]
    exact congrArg nI (by show m / 25 / 25 % 25 = m / 625 % 25; omega)
  · rw [pk_un (by decide), pk_un (by decide), pk_us]
    rfl
  · rw [pk_un (by decide), pk_un (by decide), pk_un (by decide), pk_us]
    rfl
def xi_p (a : Nat → Nat) : Nat := ((25 * a 0 + a 1) * 25 + a 2) * 25 + a 3
def xi_i (c : Nat → Nat) : Nat → (Nat → Nat) → Nat
  | 0, _ => 1000000
  | j + 1, a => if a j = c j then xi_i c j (xa_u a j 0) else xi_p (xa_u a j (a j + 1))
theorem xi_is {c a : Nat → Nat} {j : Nat} : xi_i c (j + 1) a = if a j = c j then xi_i c j (xa_u a j 0) else xi_p (xa_u a j (a j + 1)) := rfl
theorem xi_pw {post : Int32 → Prop} {a : Nat → Nat} (hd : xd_R dg a) (hp : post (nI (xi_p a))) : wpX_packed post (nI n, pa, is, de, so, nx, mq, xa_r tk, tE, sT, bi, dO, ms, mA, dg) := by
  unfold wpX_packed
  have e : ((((((25 * (dg 0)) + (dg 1)) * 25) + (dg 2)) * 25) + (dg 3)) = nI (xi_p a) := by
    rw [hd 0 (by decide), hd 1 (by decide), hd 2 (by decide), hd 3 (by decide)]
    show ((((((nI 25 * nI (a 0)) + nI (a 1)) * nI 25) + nI (a 2)) * nI 25) + nI (a 3)) = nI (xi_p a)
    rw [pk_mul, nI_add, pk_mul, nI_add, pk_mul, nI_add]
    rfl
  show post _
  rw [e]
  exact hp
theorem xr_85 {post : Int32 → SX → Prop} {c : Nat → Nat} (hc : ∀ i, c i ≤ 24) (hmA : ∀ d, d < 4 → mA d = nI (c d)) :
    ∀ j, j ≤ 4 → ∀ a dg, xd_R dg a → (∀ i, i < 4 → a i ≤ c i) → (∀ dg, post (nI (xi_i c j a)) (nI n, pa, is, de, so, nx, mq, xa_r tk, tE, sT, bi, dO, ms, mA, dg)) → ∀ N, j < N → wX_before_85 post (nI n) pa is de so N (nI j + (-1)) nx mq (xa_r tk) tE sT bi dO ms mA dg := by
  intro j
  induction j with
  | zero =>
    intro _ a dg hR hl hp N hN
    obtain ⟨N, rfl⟩ : ∃ M, N = M + 1 := ⟨N - 1, by omega⟩
    refine br_t xa_m0 ?_
    unfold wX_before_121
    exact br_f (by decide) (hp dg)
  | succ j ih =>
    intro hj a dg hR hl hp N hN
    obtain ⟨N, rfl⟩ : ∃ M, N = M + 1 := ⟨N - 1, by omega⟩
    have c24 := hc j
    have al := hl j (by omega)
    rw [xi_is] at hp
    rw [pk_m1]
    refine br_f (nI_pos (by omega)) ⟨vp_in_nI (by omega) (by decide), vp_in_nI (by omega) (by decide), ?_⟩
    refine pk_eq (a j) (c j) (fun q => ?_) (fun q => ?_) (by rw [nI_clamp (by omega)]; exact hR j (by omega)) (by rw [nI_clamp (by omega)]; exact hmA j (by omega))
    · rw [if_pos q] at hp
      refine ⟨vp_in_nI (by omega) (by decide), nm_r (e' := upd dg j (nI 0)) (by rw [nI_clamp (by omega), xa_b0]) (nm_e ?_)⟩
      refine ih (by omega) (xa_u a j 0) _ (xd_up hR) (fun i hi => ?_) hp N (by omega)
      by_cases q2 : i = j
      · subst q2; rw [xa_us]; exact Nat.zero_le _
      · rw [xa_un q2]; exact hl i hi
    · rw [if_neg q] at hp
      unfold wX_before_121
      refine br_t (nI_pos' (by omega)) ⟨vp_in_nI (by omega) (by decide), vp_in_nI (by omega) (by decide), nm_r (e' := upd dg j (nI (a j + 1))) ?_ ?_⟩
      · rw [nI_clamp (by omega), hR j (by omega), nI_1, xa_by (by omega)]
      · refine xi_pw (xd_up hR) ?_
        exact hp _
/-- digits behind depth d dropped, up to j -/
def xr_z (d j : Nat) (a : Nat → Nat) : Nat → Nat := fun i => if d < i ∧ i < j then 0 else a i
theorem xr_42 {post : Int32 → SX → Prop} {c : Nat → Nat} {t d : Nat} (ht : t ≤ 18) (hd : d ≤ 3) (hc : ∀ i, c i ≤ 24) (hmA : ∀ d, d < 4 → mA d = nI (c d)) {a : Nat → Nat} (hl : ∀ i, i < 4 → a i ≤ c i)
    (h1 : t < 13 → ∀ dg, post (nI (xi_i c (d + 1) (xr_z d 4 a))) (nI n, pa, is, de, so, nx, mq, xa_r tk, tE, sT, bi, dO, ms, mA, dg)) (h2 : 13 ≤ t → ∀ dg, post (nI (xi_p (xa_u (xr_z d 4 a) d 0))) (nI n, pa, is, de, so, nx, mq, xa_r tk, tE, sT, bi, dO, ms, mA, dg)) :
    ∀ e j, j + e = 4 → d < j → ∀ dg, xd_R dg (xr_z d j a) → wX_before_42 post (nI t) (nI d) (nI n) pa is de so (e + 1) (nI j) nx mq (xa_r tk) tE sT bi dO ms mA dg := by
  intro e
  induction e with
  | zero =>
    intro j hj hdj dg hR
    have ej : j = 4 := by omega
    subst ej
    refine br_t (nI_le (a := 4) (by omega) (by omega)) ?_
    refine pk_lt t 13 (fun q => ⟨d + 2, ?_⟩) (fun q => ?_)
    · rw [← pk_m1 d]
      refine xr_85 hc hmA (d + 1) (by omega) _ _ hR (fun i hi => ?_) (h1 q) (d + 2) (by omega)
      unfold xr_z
      by_cases q2 : d < i ∧ i < 4
      · rw [if_pos q2]; exact Nat.zero_le _
      · rw [if_neg q2]; exact hl i hi
    · refine ⟨vp_in_nI (by omega) (by decide), nm_r (e' := upd dg d (nI 0)) (by rw [nI_clamp (by omega), xa_b0]) ?_⟩
      refine xi_pw (xd_up hR) ?_
      exact h2 q _
  | succ e ih =>
    intro j hj hdj dg hR
    refine br_f (nI_ge (b := 4) (by omega) (by decide)) ⟨vp_in_nI (by omega) (by decide), nm_r (e' := upd dg j (nI 0)) (by rw [nI_clamp (by omega), xa_b0]) (nm_r (nI_1 j) (ih (j + 1) (by omega) (by omega) _ ?_))⟩
    have : xr_z d (j + 1) a = xa_u (xr_z d j a) j 0 := by
      funext i
      unfold xr_z xa_u
      by_cases q : i = j
      · subst q; rw [if_pos rfl, if_pos ⟨hdj, by omega⟩]
      · rw [if_neg q]
        show (if d < i ∧ i < j + 1 then 0 else a i) = if d < i ∧ i < j then 0 else a i
        by_cases q2 : d < i ∧ i < j
        · rw [if_pos q2, if_pos ⟨q2.1, by omega⟩]
        · rw [if_neg q2, if_neg (by omega)]
    rw [this]
    exact xd_up hR
theorem xr_w {post : Int32 → SX → Prop} {c : Nat → Nat} {k d m : Nat} (hk : k < 12) (h18 : ∀ i, tk i ≤ 18) (hb : fo_b (tk k)) (hd : d ≤ 3) (hdO : dO k = nI d) (hc : ∀ i, c i ≤ 24) (hmA : ∀ d, d < 4 → mA d = nI (c d)) (hm : me_ok c m)
    (hL : m = 1000000 → ∀ dg, post (nI 1000000) (nI n, pa, is, de, so, nx, mq, xa_r tk, tE, sT, bi, dO, ms, mA, dg)) (h1 : me_v c m → tk k < 13 → ∀ dg, post (nI (xi_i c (d + 1) (xr_z d 4 (xd_a m)))) (nI n, pa, is, de, so, nx, mq, xa_r tk, tE, sT, bi, dO, ms, mA, dg)) (h2 : me_v c m → 13 ≤ tk k → ∀ dg, post (nI (xi_p (xa_u (xr_z d 4 (xd_a m)) d 0))) (nI n, pa, is, de, so, nx, mq, xa_r tk, tE, sT, bi, dO, ms, mA, dg)) :
    wpX_before post (nI n, pa, is, de, so, nx, mq, xa_r tk, tE, sT, bi, dO, ms, mA, dg) (nI k) (nI m) := by
  unfold wpX_before
  refine ⟨vp_in_nI hk (by decide), nm_r (xa_cl (by omega)) ?_⟩
  refine pk_le 1000000 m (fun q => ?_) (fun q => ?_) rfl rfl (by omega) (by have := me_okL hm; omega)
  · have e : m = 1000000 := by
      have := me_okL hm
      omega
    rw [e]
    exact hL e dg
  · have hv : me_v c m := by
      rcases hm with z | z
      · omega
      · exact z
    refine xs_bi (h18 k) (fun _ => ?_) (fun z => absurd hb z)
    refine br_f (by decide) ⟨vp_in_nI hk (by decide), nm_r (e' := nI d) (by rw [nI_clamp (by omega)]; exact hdO) ?_⟩
    refine xu_w hv.1 (fun dg' hR => ?_)
    refine nm_r (nI_1 d) ⟨3 - d + 1, ?_⟩
    refine xr_42 (h18 k) hd hc hmA (a := xd_a m) (fun i hi => ?_) (h1 hv) (h2 hv) (3 - d) (d + 1) (by omega) (by omega) _ ?_
    · obtain ⟨v1, v2, v3, v4, v5⟩ := hv
      rcases (by omega : i = 0 ∨ i = 1 ∨ i = 2 ∨ i = 3) with rfl | rfl | rfl | rfl
      · exact v2
      · exact v3
      · exact v4
      · exact v5
    · have : xr_z d (d + 1) (xd_a m) = xd_a m := by
        funext i
        unfold xr_z
        rw [if_neg (by omega)]
      rw [this]
      exact hR
end
end
section
/-! what the carry gives, in numbers -/
theorem xi_0 {c a : Nat → Nat} : xi_i c 1 a = if a 0 = c 0 then 1000000 else ((25 * (a 0 + 1) + a 1) * 25 + a 2) * 25 + a 3 := rfl
theorem xi_1 {c a : Nat → Nat} : xi_i c 2 a = if a 1 = c 1 then (if a 0 = c 0 then 1000000 else ((25 * (a 0 + 1) + 0) * 25 + a 2) * 25 + a 3) else ((25 * a 0 + (a 1 + 1)) * 25 + a 2) * 25 + a 3 := rfl
theorem xi_2 {c a : Nat → Nat} : xi_i c 3 a = if a 2 = c 2 then (if a 1 = c 1 then (if a 0 = c 0 then 1000000 else ((25 * (a 0 + 1) + 0) * 25 + 0) * 25 + a 3) else ((25 * a 0 + (a 1 + 1)) * 25 + 0) * 25 + a 3) else ((25 * a 0 + a 1) * 25 + (a 2 + 1)) * 25 + a 3 := rfl
theorem xi_3 {c a : Nat → Nat} : xi_i c 4 a = if a 3 = c 3 then (if a 2 = c 2 then (if a 1 = c 1 then (if a 0 = c 0 then 1000000 else ((25 * (a 0 + 1) + 0) * 25 + 0) * 25 + 0) else ((25 * a 0 + (a 1 + 1)) * 25 + 0) * 25 + 0) else ((25 * a 0 + a 1) * 25 + (a 2 + 1)) * 25 + 0) else ((25 * a 0 + a 1) * 25 + a 2) * 25 + (a 3 + 1) := rfl
def xi_S (c : Nat → Nat) (p m r : Nat) : Prop := me_ok c r ∧ (r ≠ 1000000 → m / p < r / p) ∧ (∀ w, me_v c w → m / p < w / p → r ≤ w)
theorem xi_SL {c : Nat → Nat} {p m : Nat} (h : ∀ w, me_v c w → m / p < w / p → False) : xi_S c p m 1000000 := ⟨Or.inl rfl, fun z => absurd rfl z, fun w a b => (h w a b).elim⟩
theorem xi_Sv {c : Nat → Nat} {p m r : Nat} (h1 : me_v c r) (h2 : m / p < r / p) (h : ∀ w, me_v c w → m / p < w / p → r ≤ w) : xi_S c p m r := ⟨Or.inr h1, fun _ => h2, h⟩
theorem xi_S0 {c : Nat → Nat} {m : Nat} (c0 : c 0 ≤ 24) (hv : me_v c m) : xi_S c 15625 m (if m / 15625 = c 0 then 1000000 else ((25 * (m / 15625 + 1) + 0) * 25 + 0) * 25 + 0) := by
  obtain ⟨v1, v2, v3, v4, v5⟩ := hv
  by_cases q0 : m / 15625 = c 0
  · rw [if_pos q0]
    refine xi_SL (fun w ⟨w1, w2, w3, w4, w5⟩ hw => ?_)
    omega
  · rw [if_neg q0]
    refine xi_Sv ⟨by omega, by omega, by omega, by omega, by omega⟩ (by omega) (fun w ⟨w1, w2, w3, w4, w5⟩ hw => ?_)
    omega
theorem xi_S1 {c : Nat → Nat} {m : Nat} (c0 : c 0 ≤ 24) (c1 : c 1 ≤ 24) (hv : me_v c m) : xi_S c 625 m (if m / 625 % 25 = c 1 then (if m / 15625 = c 0 then 1000000 else ((25 * (m / 15625 + 1) + 0) * 25 + 0) * 25 + 0) else ((25 * (m / 15625) + (m / 625 % 25 + 1)) * 25 + 0) * 25 + 0) := by
  obtain ⟨v1, v2, v3, v4, v5⟩ := hv
  by_cases q1 : m / 625 % 25 = c 1
  · rw [if_pos q1]
    by_cases q0 : m / 15625 = c 0
    · rw [if_pos q0]
      refine xi_SL (fun w ⟨w1, w2, w3, w4, w5⟩ hw => ?_)
      omega
    · rw [if_neg q0]
      refine xi_Sv ⟨by omega, by omega, by omega, by omega, by omega⟩ (by omega) (fun w ⟨w1, w2, w3, w4, w5⟩ hw => ?_)
      omega
  · rw [if_neg q1]
    refine xi_Sv ⟨by omega, by omega, by omega, by omega, by omega⟩ (by omega) (fun w ⟨w1, w2, w3, w4, w5⟩ hw => ?_)
    omega
theorem xi_S2 {c : Nat → Nat} {m : Nat} (c0 : c 0 ≤ 24) (c1 : c 1 ≤ 24) (c2 : c 2 ≤ 24) (hv : me_v c m) : xi_S c 25 m (if m / 25 % 25 = c 2 then (if m / 625 % 25 = c 1 then (if m / 15625 = c 0 then 1000000 else ((25 * (m / 15625 + 1) + 0) * 25 + 0) * 25 + 0) else ((25 * (m / 15625) + (m / 625 % 25 + 1)) * 25 + 0) * 25 + 0) else ((25 * (m / 15625) + m / 625 % 25) * 25 + (m / 25 % 25 + 1)) * 25 + 0) := by
  obtain ⟨v1, v2, v3, v4, v5⟩ := hv
  by_cases q2 : m / 25 % 25 = c 2
  · rw [if_pos q2]
    by_cases q1 : m / 625 % 25 = c 1
    · rw [if_pos q1]
      by_cases q0 : m / 15625 = c 0
      · rw [if_pos q0]
        refine xi_SL (fun w ⟨w1, w2, w3, w4, w5⟩ hw => ?_)
        omega
      · rw [if_neg q0]
        refine xi_Sv ⟨by omega, by omega, by omega, by omega, by omega⟩ (by omega) (fun w ⟨w1, w2, w3, w4, w5⟩ hw => ?_)
        omega
    · rw [if_neg q1]
      refine xi_Sv ⟨by omega, by omega, by omega, by omega, by omega⟩ (by omega) (fun w ⟨w1, w2, w3, w4, w5⟩ hw => ?_)
      omega
  · rw [if_neg q2]
    refine xi_Sv ⟨by omega, by omega, by omega, by omega, by omega⟩ (by omega) (fun w ⟨w1, w2, w3, w4, w5⟩ hw => ?_)
    omega
theorem xi_S3 {c : Nat → Nat} {m : Nat} (c0 : c 0 ≤ 24) (c1 : c 1 ≤ 24) (c2 : c 2 ≤ 24) (c3 : c 3 ≤ 24) (hv : me_v c m) : xi_S c 1 m (if m % 25 = c 3 then (if m / 25 % 25 = c 2 then (if m / 625 % 25 = c 1 then (if m / 15625 = c 0 then 1000000 else ((25 * (m / 15625 + 1) + 0) * 25 + 0) * 25 + 0) else ((25 * (m / 15625) + (m / 625 % 25 + 1)) * 25 + 0) * 25 + 0) else ((25 * (m / 15625) + m / 625 % 25) * 25 + (m / 25 % 25 + 1)) * 25 + 0) else ((25 * (m / 15625) + m / 625 % 25) * 25 + m / 25 % 25) * 25 + (m % 25 + 1)) := by
  obtain ⟨v1, v2, v3, v4, v5⟩ := hv
  by_cases q3 : m % 25 = c 3
  · rw [if_pos q3]
    by_cases q2 : m / 25 % 25 = c 2
    · rw [if_pos q2]
      by_cases q1 : m / 625 % 25 = c 1
      · rw [if_pos q1]
        by_cases q0 : m / 15625 = c 0
        · rw [if_pos q0]
          refine xi_SL (fun w ⟨w1, w2, w3, w4, w5⟩ hw => ?_)
          omega
        · rw [if_neg q0]
          refine xi_Sv ⟨by omega, by omega, by omega, by omega, by omega⟩ (by omega) (fun w ⟨w1, w2, w3, w4, w5⟩ hw => ?_)
          omega
      · rw [if_neg q1]
        refine xi_Sv ⟨by omega, by omega, by omega, by omega, by omega⟩ (by omega) (fun w ⟨w1, w2, w3, w4, w5⟩ hw => ?_)
        omega
    · rw [if_neg q2]
      refine xi_Sv ⟨by omega, by omega, by omega, by omega, by omega⟩ (by omega) (fun w ⟨w1, w2, w3, w4, w5⟩ hw => ?_)
      omega
  · rw [if_neg q3]
    refine xi_Sv ⟨by omega, by omega, by omega, by omega, by omega⟩ (by omega) (fun w ⟨w1, w2, w3, w4, w5⟩ hw => ?_)
    omega
theorem xi_b1 {c : Nat → Nat} {d m t : Nat} (hc : ∀ i, c i ≤ 24) (hd : d ≤ 3) (ht : t < 13) (hv : me_v c m) : me_bf c d t m (xi_i c (d + 1) (xr_z d 4 (xd_a m))) := by
  refine Or.inr (Or.inr ⟨hv, ht, ?_⟩)
  rcases (by omega : d = 0 ∨ d = 1 ∨ d = 2 ∨ d = 3) with rfl | rfl | rfl | rfl
  · exact xi_S0 (hc 0) hv
  · exact xi_S1 (hc 0) (hc 1) hv
  · exact xi_S2 (hc 0) (hc 1) (hc 2) hv
  · exact xi_S3 (hc 0) (hc 1) (hc 2) (hc 3) hv
theorem xi_b2 {c : Nat → Nat} {d m t : Nat} (hd : d ≤ 3) (ht : 13 ≤ t) (hv : me_v c m) : me_bf c d t m (xi_p (xa_u (xr_z d 4 (xd_a m)) d 0)) := by
  refine Or.inr (Or.inl ⟨hv, ht, ?_⟩)
  have v1 := hv.1
  rcases (by omega : d = 0 ∨ d = 1 ∨ d = 2 ∨ d = 3) with rfl | rfl | rfl | rfl
  · show ((25 * 0 + 0) * 25 + 0) * 25 + 0 = m / 390625 * 390625
    omega
  · show ((25 * (m / 15625) + 0) * 25 + 0) * 25 + 0 = m / 15625 * 15625
    omega
  · show ((25 * (m / 15625) + m / 625 % 25) * 25 + 0) * 25 + 0 = m / 625 * 625
    omega
  · show ((25 * (m / 15625) + m / 625 % 25) * 25 + m / 25 % 25) * 25 + 0 = m / 25 * 25
    omega
/-! one bit -/
theorem xo_1 : ∀ i, i < 32 → bt 1 i = decide (i = 0) := by decide +kernel
theorem xo_and1 (y : Int32) : y &&& 1 = 0 ↔ bt y 0 = false := by
  constructor
  · intro h
    have a := b_and y 1 0
    rw [h, b_0, xo_1 0 (by decide)] at a
    simpa using a.symm
  · intro h
    apply b_ext
    intro i hi
    rw [b_and, b_0, xo_1 i hi]
    by_cases c : i = 0
    · subst c; rw [h]; rfl
    · rw [decide_eq_false c]; simp
theorem xo_bit (x : Int32) {j : Nat} (hj : j < 31) : (x >>> (nI j &&& 31)) &&& 1 = 0 ↔ bt x j = false := by
  rw [xo_and1, b_sshr j (by omega) x (by decide), if_pos (by omega)]
  rfl
/-! the component's overSteps, demanded -/
def xm_R (ms : Nat → Int32) (m : Nat → Nat) : Prop := ∀ i, i < 72 → ms i = nI (m i) ∧ m i ≤ 1000000
theorem xm_ix (j k : Nat) : (12 * nI j + nI k) + 1 = nI (12 * j + (k + 1)) := by
  show (nI 12 * nI j + nI k) + 1 = _
  rw [pk_mul, nI_add, nI_1]
  rfl
theorem xm_iy (j k : Nat) : 12 * nI j + nI k = nI (12 * j + k) := by
  show nI 12 * nI j + nI k = _
  rw [pk_mul, nI_add]
section
variable {n : Nat} {tk E : Nat → Nat} {pa is de so : Int32} {nx mq tE sT bi dO ms mA dg : Nat → Int32}
theorem xo_8 {post : Int32 → Prop} {m : Nat → Nat} {s k : Nat} (hs : s < 6) (hk : k + 1 < 12) (hm : xm_R ms m)
    (hp : ∀ r, (r = 1000000 ∨ me_e (xa_b nx) m s k r) → (∀ j, j < 6 → xa_b nx s j = true → r ≤ m (12 * j + (k + 1))) → post (nI r)) :
    ∀ d j, j + d = 6 → ∀ r, r ≤ 1000000 → (r = 1000000 ∨ me_e (xa_b nx) m s k r) → (∀ i, i < j → xa_b nx s i = true → r ≤ m (12 * i + (k + 1))) → wX_overSteps_15 post (nI s) (nI k) 1 (nI n) pa is de so nx mq (xa_r tk) tE sT bi dO ms mA dg (d + 1) (nI r) (nI j) := by
  intro d
  induction d with
  | zero =>
    intro j hj r hr h1 h2
    exact br_t (nI_le (a := 6) (by omega) (by omega)) (hp r h1 (fun i hi => h2 i (by omega)))
  | succ d ih =>
    intro j hj r hr h1 h2
    have hj6 : j < 6 := by omega
    have hmj := hm (12 * j + (k + 1)) (by omega)
    refine br_f (nI_ge (b := 6) (by omega) (by decide)) ⟨vp_in_nI hs (by decide), ?_⟩
    rw [nI_clamp (by omega : s < 2 ^ 31), xo_bit (nx s) (by omega : j < 31)]
    by_cases c : bt (nx s) j = false
    · refine br_t c (nm_r (nI_1 j) (ih (j + 1) (by omega) r hr h1 (fun i hi hb => ?_)))
      by_cases q : i = j
      · subst q
        exact absurd hb (by show ¬ bt (nx s) i = true; rw [c]; decide)
      · exact h2 i (by omega) hb
    · have cb : xa_b nx s j = true := by
        show bt (nx s) j = true
        cases z : bt (nx s) j
        · exact absurd z c
        · rfl
      rw [xm_ix]
      refine br_f c ⟨vp_in_nI (by omega) (by decide), nm_r (e' := nI (m (12 * j + (k + 1)))) (by rw [nI_clamp (by omega)]; exact hmj.1) ?_⟩
      refine br_f (by decide) ?_
      refine pk_le r (m (12 * j + (k + 1))) (fun q => nm_r (nI_1 j) (ih (j + 1) (by omega) r hr h1 (fun i hi hb => ?_))) (fun q => nm_r (nI_1 j) (ih (j + 1) (by omega) _ hmj.2 (Or.inr ⟨j, hj6, cb, rfl⟩) (fun i hi hb => ?_))) rfl rfl (by omega) (by omega)
      · by_cases q2 : i = j
        · subst q2; exact q
        · exact h2 i (by omega) hb
      · by_cases q2 : i = j
        · subst q2; exact Nat.le_refl _
        · have := h2 i (by omega) hb
          omega
theorem xo_9 {post : Int32 → Prop} {m : Nat → Nat} {s k : Nat} (hs : s < 6) (hk : k + 1 < 12) (hm : xm_R ms m)
    (hp : ∀ r, (r = 0 ∨ me_e (xa_b nx) m s k r) → (∀ j, j < 6 → xa_b nx s j = true → m (12 * j + (k + 1)) ≤ r) → post (nI r)) :
    ∀ d j, j + d = 6 → ∀ r, r ≤ 1000000 → (r = 0 ∨ me_e (xa_b nx) m s k r) → (∀ i, i < j → xa_b nx s i = true → m (12 * i + (k + 1)) ≤ r) → wX_overSteps_15 post (nI s) (nI k) 0 (nI n) pa is de so nx mq (xa_r tk) tE sT bi dO ms mA dg (d + 1) (nI r) (nI j) := by
  intro d
  induction d with
  | zero =>
    intro j hj r hr h1 h2
    exact br_t (nI_le (a := 6) (by omega) (by omega)) (hp r h1 (fun i hi => h2 i (by omega)))
  | succ d ih =>
    intro j hj r hr h1 h2
    have hj6 : j < 6 := by omega
    have hmj := hm (12 * j + (k + 1)) (by omega)
    refine br_f (nI_ge (b := 6) (by omega) (by decide)) ⟨vp_in_nI hs (by decide), ?_⟩
    rw [nI_clamp (by omega : s < 2 ^ 31), xo_bit (nx s) (by omega : j < 31)]
    by_cases c : bt (nx s) j = false
    · refine br_t c (nm_r (nI_1 j) (ih (j + 1) (by omega) r hr h1 (fun i hi hb => ?_)))
      by_cases q : i = j
      · subst q
        exact absurd hb (by show ¬ bt (nx s) i = true; rw [c]; decide)
      · exact h2 i (by omega) hb
    · have cb : xa_b nx s j = true := by
        show bt (nx s) j = true
        cases z : bt (nx s) j
        · exact absurd z c
        · rfl
      rw [xm_ix]
      refine br_f c ⟨vp_in_nI (by omega) (by decide), nm_r (e' := nI (m (12 * j + (k + 1)))) (by rw [nI_clamp (by omega)]; exact hmj.1) ?_⟩
      refine br_t rfl ?_
      refine pk_le (m (12 * j + (k + 1))) r (fun q => nm_r (nI_1 j) (ih (j + 1) (by omega) r hr h1 (fun i hi hb => ?_))) (fun q => nm_r (nI_1 j) (ih (j + 1) (by omega) _ hmj.2 (Or.inr ⟨j, hj6, cb, rfl⟩) (fun i hi hb => ?_))) rfl rfl (by omega) (by omega)
      · by_cases q2 : i = j
        · subst q2; exact q
        · exact h2 i (by omega) hb
      · by_cases q2 : i = j
        · subst q2; exact Nat.le_refl _
        · have := h2 i (by omega) hb
          omega
theorem xo_w8 {post : Int32 → Prop} {m : Nat → Nat} {s k : Nat} (hs : s < 6) (hk : k + 1 < 12) (hm : xm_R ms m)
    (hp : ∀ r, (r = 1000000 ∨ me_e (xa_b nx) m s k r) → (∀ j, j < 6 → xa_b nx s j = true → r ≤ m (12 * j + (k + 1))) → post (nI r)) : wpX_overSteps post (nI n, pa, is, de, so, nx, mq, xa_r tk, tE, sT, bi, dO, ms, mA, dg) (nI s) (nI k) 1 := by
  unfold wpX_overSteps
  refine br_f (by decide) ⟨7, ?_⟩
  exact xo_8 hs hk hm hp 6 0 (by omega) 1000000 (by omega) (Or.inl rfl) (fun i hi => absurd hi (Nat.not_lt_zero _))
theorem xo_w9 {post : Int32 → Prop} {m : Nat → Nat} {s k : Nat} (hs : s < 6) (hk : k + 1 < 12) (hm : xm_R ms m)
    (hp : ∀ r, (r = 0 ∨ me_e (xa_b nx) m s k r) → (∀ j, j < 6 → xa_b nx s j = true → m (12 * j + (k + 1)) ≤ r) → post (nI r)) : wpX_overSteps post (nI n, pa, is, de, so, nx, mq, xa_r tk, tE, sT, bi, dO, ms, mA, dg) (nI s) (nI k) 0 := by
  unfold wpX_overSteps
  refine br_t rfl ⟨7, ?_⟩
  exact xo_9 hs hk hm hp 6 0 (by omega) 0 (by omega) (Or.inl rfl) (fun i hi => absurd hi (Nat.not_lt_zero _))
end
end
section
/-! the component's demanded -/
section
variable {n : Nat} {tk E : Nat → Nat} {st mk : Nat → Nat → Bool} {m : Nat → Nat} {s k r : Nat}
theorem xe_1 (t : tk k < 3) (e : r = if mk (tk k) s = true then 0 else 1000000) : me_ds tk E n st mk m s k r :=
  ⟨fun _ => e, fun z => by omega, fun z => by omega, fun z => by omega, fun z => by omega, fun z => by omega, fun z => by omega, fun z => by omega⟩
theorem xe_2 (t1 : 3 ≤ tk k) (t : tk k < 6) (e : r = if mk (tk k - 3) s = true then 1000000 else 0) : me_ds tk E n st mk m s k r :=
  ⟨fun z => by omega, fun _ _ => e, fun z => by omega, fun z => by omega, fun z => by omega, fun z => by omega, fun z => by omega, fun z => by omega⟩
theorem xe_3 (t : tk k = 6) (e : m (12 * s + (k + 1)) ≤ r ∧ m (12 * s + E (k + 1)) ≤ r ∧ (r = m (12 * s + (k + 1)) ∨ r = m (12 * s + E (k + 1)))) : me_ds tk E n st mk m s k r :=
  ⟨fun z => by omega, fun z => by omega, fun _ => e, fun z => by omega, fun z => by omega, fun z => by omega, fun z => by omega, fun z => by omega⟩
theorem xe_4 (t : tk k = 7) (e : r ≤ m (12 * s + (k + 1)) ∧ r ≤ m (12 * s + E (k + 1)) ∧ (r = m (12 * s + (k + 1)) ∨ r = m (12 * s + E (k + 1)))) : me_ds tk E n st mk m s k r :=
  ⟨fun z => by omega, fun z => by omega, fun z => by omega, fun _ => e, fun z => by omega, fun z => by omega, fun z => by omega, fun z => by omega⟩
theorem xe_5 (t : tk k = 8) (e : (r = 1000000 ∨ me_e st m s k r)) (f : ∀ j, j < 6 → st s j = true → r ≤ m (12 * j + (k + 1))) : me_ds tk E n st mk m s k r :=
  ⟨fun z => by omega, fun z => by omega, fun z => by omega, fun z => by omega, fun _ => ⟨e, f⟩, fun z => by omega, fun z => by omega, fun z => by omega⟩
theorem xe_6 (t : tk k = 9) (e : (r = 0 ∨ me_e st m s k r)) (f : ∀ j, j < 6 → st s j = true → m (12 * j + (k + 1)) ≤ r) : me_ds tk E n st mk m s k r :=
  ⟨fun z => by omega, fun z => by omega, fun z => by omega, fun z => by omega, fun z => by omega, fun _ => ⟨e, f⟩, fun z => by omega, fun z => by omega⟩
theorem xe_7 (t : fo_b (tk k)) (e : me_bf (me_c tk E n) (fo_dep tk E k) (tk k) (m (12 * s + (k + 1))) r) : me_ds tk E n st mk m s k r :=
  ⟨fun z => by omega, fun z => by omega, fun z => by omega, fun z => by omega, fun z => by omega, fun z => by omega, fun _ => e, fun z => by omega⟩
theorem xe_8 (t : 16 ≤ tk k) (e : r = m (12 * s + fo_B tk E k)) : me_ds tk E n st mk m s k r :=
  ⟨fun z => by omega, fun z => by omega, fun z => by omega, fun z => by omega, fun z => by omega, fun z => by omega, fun z => by omega, fun _ => e⟩
end
section
variable {n : Nat} {tk E : Nat → Nat} {pa is de so : Int32} {nx mq tE sT bi dO ms mA dg : Nat → Int32}
theorem xe_151 {post : Int32 → SX → Prop} {a b : Nat} {t : Nat} (ht : t = 6 ∨ t = 7) (ha : a ≤ 1000000) (hb : b ≤ 1000000)
    (h6 : t = 6 → ∀ r, a ≤ r → b ≤ r → (r = a ∨ r = b) → post (nI r) (nI n, pa, is, de, so, nx, mq, xa_r tk, tE, sT, bi, dO, ms, mA, dg)) (h7 : t = 7 → ∀ r, r ≤ a → r ≤ b → (r = a ∨ r = b) → post (nI r) (nI n, pa, is, de, so, nx, mq, xa_r tk, tE, sT, bi, dO, ms, mA, dg)) :
    (nI b ≤ nI a → wX_demanded_140 post (nI t) (nI a) (nI b) 0 (nI n) pa is de so nx mq (xa_r tk) tE sT bi dO ms mA dg) ∧ (¬ nI b ≤ nI a → wX_demanded_140 post (nI t) (nI a) (nI b) 1 (nI n) pa is de so nx mq (xa_r tk) tE sT bi dO ms mA dg) := by
  refine pk_le b a (fun q => ?_) (fun q => ?_)
  · unfold wX_demanded_140 wX_demanded_151
    rcases ht with rfl | rfl
    · exact br_f (by decide) (br_t rfl (h6 rfl a (Nat.le_refl _) q (Or.inl rfl)))
    · exact br_t rfl (br_f (by decide) (h7 rfl b q (Nat.le_refl _) (Or.inr rfl)))
  · unfold wX_demanded_140 wX_demanded_151
    rcases ht with rfl | rfl
    · exact br_f (by decide) (br_f (by decide) (h6 rfl b (by omega) (Nat.le_refl _) (Or.inr rfl)))
    · exact br_t rfl (br_t rfl (h7 rfl a (Nat.le_refl _) (by omega) (Or.inl rfl)))
theorem xe_95 {post : Int32 → SX → Prop} {m : Nat → Nat} {s k e : Nat} (hs : s < 6) (hk : k + 1 < 12) (he : e < 12) (hsT : sT k = nI e) (hm : xm_R ms m) (ht : tk k = 6 ∨ tk k = 7)
    (h6 : tk k = 6 → ∀ r, m (12 * s + (k + 1)) ≤ r → m (12 * s + e) ≤ r → (r = m (12 * s + (k + 1)) ∨ r = m (12 * s + e)) → post (nI r) (nI n, pa, is, de, so, nx, mq, xa_r tk, tE, sT, bi, dO, ms, mA, dg))
    (h7 : tk k = 7 → ∀ r, r ≤ m (12 * s + (k + 1)) → r ≤ m (12 * s + e) → (r = m (12 * s + (k + 1)) ∨ r = m (12 * s + e)) → post (nI r) (nI n, pa, is, de, so, nx, mq, xa_r tk, tE, sT, bi, dO, ms, mA, dg)) :
    wX_demanded_95 post (nI s) (nI k) (nI (tk k)) (nI n) pa is de so nx mq (xa_r tk) tE sT bi dO ms mA dg := by
  have m1 := hm (12 * s + (k + 1)) (by omega)
  have m2 := hm (12 * s + e) (by omega)
  unfold wX_demanded_95
  rw [xm_ix, nI_clamp (by omega : k < 2 ^ 31), hsT, xm_iy]
  refine ⟨vp_in_nI (by omega) (by decide), nm_r (e' := nI (m (12 * s + (k + 1)))) (by rw [nI_clamp (by omega)]; exact m1.1) ⟨vp_in_nI (by omega) (by decide), vp_in_nI (by omega) (by decide), nm_r (e' := nI (m (12 * s + e))) (by rw [nI_clamp (by omega)]; exact m2.1) ?_⟩⟩
  exact xe_151 ht m1.2 m2.2 h6 h7
theorem xe_w {post : Int32 → SX → Prop} {m : Nat → Nat} {s k : Nat} (H : me_H tk E n) (h18 : ∀ i, tk i ≤ 18) (ok : xp_ok tk n E tE sT bi dO) (hmA : ∀ d, d < 4 → mA d = nI (me_c tk E n d)) (hm : xm_R ms m)
    (hok : ∀ i, i < 72 → me_ok (me_c tk E n) (m i)) (hs : s < 6) (hk : k < n) (hp : ∀ r dg, me_ds tk E n (xa_b nx) (xa_b mq) m s k r → post (nI r) (nI n, pa, is, de, so, nx, mq, xa_r tk, tE, sT, bi, dO, ms, mA, dg)) : wpX_demanded post (nI n, pa, is, de, so, nx, mq, xa_r tk, tE, sT, bi, dO, ms, mA, dg) (nI s) (nI k) := by
  have H0 := H
  obtain ⟨h, hb, hnb, h12⟩ := H
  obtain ⟨o1, o2, o3, o4⟩ := ok
  have k12 : k < 12 := by omega
  have k18 := h18 k
  unfold wpX_demanded
  refine ⟨vp_in_nI k12 (by decide), nm_r (xa_cl (by omega)) ?_⟩
  have bit : ∀ i, (mq i >>> (nI s &&& 31)) &&& 1 = 0 ↔ xa_b mq i s = false := fun i => xo_bit (mq i) (by omega)
  refine pk_le 3 (tk k) (fun c3 => ?_) (fun c3 => ?_)
  · refine pk_le 6 (tk k) (fun c6 => ?_) (fun c6 => ?_)
    · refine pk_lt (tk k) 16 (fun c16 => ?_) (fun c16 => ?_)
      · have x95 : (tk k = 6 ∨ tk k = 7) → wX_demanded_95 post (nI s) (nI k) (nI (tk k)) (nI n) pa is de so nx mq (xa_r tk) tE sT bi dO ms mA dg := by
          intro ht
          have q := fo_e6 h hk (fo_ar2 ht)
          refine xe_95 hs (by omega) (e := E (k + 1)) (by omega) (o2 k hk (fo_ar2 ht)) hm ht (fun t r a b d => hp r _ (xe_3 t ⟨a, b, d⟩)) (fun t r a b d => hp r _ (xe_4 t ⟨a, b, d⟩))
        refine pk_eq (tk k) 6 (fun t => x95 (Or.inl t)) (fun t6 => pk_eq (tk k) 7 (fun t => x95 (Or.inr t)) (fun t7 => ?_))
        have q := fo_e5 h hk (by rw [fo_ar1 (by omega) c16]; decide)
        refine xs_bi k18 (fun b => ?_) (fun b => ?_)
        · have mk1 := hm (12 * s + (k + 1)) (by omega)
          refine br_f (by decide) ?_
          rw [xm_ix]
          refine ⟨vp_in_nI (by omega) (by decide), ?_⟩
          rw [nI_clamp (by omega), mk1.1]
          have d3 := fo_d5 (E := E) hnb hk b
          refine xr_w k12 h18 b d3 (o4 k hk) (me_c24 H0) hmA (hok _ (by omega)) (fun e dg => ?_) (fun hv t dg => ?_) (fun hv t dg => ?_)
          · exact hp _ dg (xe_7 b (Or.inl ⟨e, rfl⟩))
          · exact hp _ dg (xe_7 b (xi_b1 (me_c24 H0) d3 t hv))
          · exact hp _ dg (xe_7 b (xi_b2 d3 t hv))
        · refine br_t rfl (pk_eq (tk k) 8 (fun t => ?_) (fun t => ?_))
          · unfold wX_demanded_203
            refine xo_w8 hs (by omega) hm (fun r a d => ?_)
            exact hp r _ (xe_5 t a d)
          · unfold wX_demanded_203
            refine xo_w9 hs (by omega) hm (fun r a d => ?_)
            exact hp r _ (xe_6 (by omega) a d)
      · have eb := o3 k hk c16
        have bl := (hb k hk c16).1
        have mb := hm (12 * s + fo_B tk E k) (by omega)
        rw [nI_clamp (by omega : k < 2 ^ 31), eb, xm_iy]
        refine ⟨vp_in_nI k12 (by decide), vp_in_nI (by omega) (by decide), ?_⟩
        rw [nI_clamp (by omega), mb.1]
        exact hp _ _ (xe_8 c16 rfl)
    · rw [show nI (tk k) - 3 = nI (tk k - 3) from pk_sub (b := 3) c3, nI_clamp (by omega : tk k - 3 < 2 ^ 31), bit]
      refine ⟨vp_in_nI (by omega) (by decide), ?_⟩
      by_cases c : xa_b mq (tk k - 3) s = false
      · exact br_t c (hp 0 _ (xe_2 c3 c6 (by rw [c]; rfl)))
      · exact br_f c (hp 1000000 _ (xe_2 c3 c6 (by rw [if_pos (by cases z : xa_b mq (tk k - 3) s; exact absurd z c; rfl)])))
  · rw [nI_clamp (by omega : tk k < 2 ^ 31), bit]
    refine ⟨vp_in_nI (by omega) (by decide), ?_⟩
    by_cases c : xa_b mq (tk k) s = false
    · exact br_t c (hp 1000000 _ (xe_1 c3 (by rw [c]; rfl)))
    · exact br_f c (hp 0 _ (xe_1 c3 (by rw [if_pos (by cases z : xa_b mq (tk k) s; exact absurd z c; rfl)])))
end
/-! the rounds -/
def xq_s (f : Nat → Nat) : Nat → Nat
  | 0 => 0
  | j + 1 => xq_s f j + (1000000 - f j)
theorem xq_ss {f : Nat → Nat} {j : Nat} : xq_s f (j + 1) = xq_s f j + (1000000 - f j) := rfl
theorem xq_c {f g : Nat → Nat} : ∀ j, (∀ i, i < j → f i = g i) → xq_s f j = xq_s g j := by
  intro j
  induction j with
  | zero => intro _; rfl
  | succ j ih => intro h; rw [xq_ss, xq_ss, ih (fun i hi => h i (by omega)), h j (by omega)]
theorem xq_lt {f : Nat → Nat} {p r : Nat} (h1 : f p < r) (h2 : r ≤ 1000000) : ∀ j, p < j → xq_s (fun i => if i = p then r else f i) j < xq_s f j := by
  intro j
  induction j with
  | zero => intro h; omega
  | succ j ih =>
    intro h
    rw [xq_ss, xq_ss]
    show _ + (1000000 - if j = p then r else f j) < _
    by_cases c : j = p
    · subst c
      rw [if_pos rfl, xq_c (g := f) j (fun i hi => if_neg (by omega))]
      omega
    · rw [if_neg c]
      have := ih (by omega)
      omega
section
variable {n : Nat} {tk E : Nat → Nat} {pa is de so : Int32} {nx mq tE sT bi dO ms mA dg : Nat → Int32}
def xq_ok (tk E : Nat → Nat) (n : Nat) (nx mq : Nat → Int32) (m : Nat → Nat) (s k : Nat) : Prop := ∃ r, me_ds tk E n (xa_b nx) (xa_b mq) m s k r ∧ r ≤ m (12 * s + k)
def xq_J (tk E : Nat → Nat) (n : Nat) (nx mq ms : Nat → Int32) (m : Nat → Nat) : Prop := xm_R ms m ∧ (∀ i, i < 72 → me_ok (me_c tk E n) (m i)) ∧ me_I tk E n (xa_b nx) (xa_b mq) m
def xq_Q (tk E : Nat → Nat) (n : Nat) (nx mq : Nat → Int32) (m0 : Nat → Nat) (k s : Nat) (x1 : Int32) (m : Nat → Nat) : Prop :=
  (x1 = 0 ∧ m = m0 ∧ ∀ s' k', s' < 6 → k' < n → (k < k' ∨ (k' = k ∧ s' < s)) → xq_ok tk E n nx mq m s' k') ∨ (x1 = 1 ∧ xq_s m 72 < xq_s m0 72)
def xq_P (tk E : Nat → Nat) (n : Nat) (nx mq : Nat → Int32) (m0 : Nat → Nat) (j : Nat) (x1 : Int32) (m : Nat → Nat) : Prop :=
  (x1 = 0 ∧ m = m0 ∧ ∀ s' k', s' < 6 → k' < n → j ≤ k' → xq_ok tk E n nx mq m s' k') ∨ (x1 = 1 ∧ xq_s m 72 < xq_s m0 72)
theorem xv_70 {post : SX → Prop} {J51 : Int32 → Int32 → Int32 → Int32 → Int32 → Int32 → (Nat → Int32) → (Nat → Int32) → (Nat → Int32) → (Nat → Int32) → (Nat → Int32) → (Nat → Int32) → (Nat → Int32) → (Nat → Int32) → (Nat → Int32) → (Nat → Int32) → Prop}
    {J64 : Int32 → Int32 → Int32 → Int32 → Int32 → Int32 → Int32 → (Nat → Int32) → (Nat → Int32) → (Nat → Int32) → (Nat → Int32) → (Nat → Int32) → (Nat → Int32) → (Nat → Int32) → (Nat → Int32) → (Nat → Int32) → (Nat → Int32) → Prop}
    {m0 : Nat → Nat} {k : Nat} (H : me_H tk E n) (h18 : ∀ i, tk i ≤ 18) (ok : xp_ok tk n E tE sT bi dO) (hmA : ∀ d, d < 4 → mA d = nI (me_c tk E n d)) (hk : k < n)
    (hJ : ∀ x1 ms dg m, xq_P tk E n nx mq m0 k x1 m → xq_J tk E n nx mq ms m → J64 x1 (nI k + (-1)) (nI n) pa is de so nx mq (xa_r tk) tE sT bi dO ms mA dg) :
    ∀ d s, s + d = 6 → ∀ x1 ms dg m, xq_Q tk E n nx mq m0 k s x1 m → xq_J tk E n nx mq ms m → wX_solve_70 post J51 J64 (nI k) (d + 1) x1 (nI s) (nI n) pa is de so nx mq (xa_r tk) tE sT bi dO ms mA dg := by
  have h12 := H.2.2.2
  intro d
  induction d with
  | zero =>
    intro s hs x1 ms dg m hQ hI
    refine br_t (nI_le (a := 6) (by omega) (by omega)) (nm_e (hJ _ _ _ m ?_ hI))
    rcases hQ with ⟨a, b, c⟩ | q
    · exact Or.inl ⟨a, b, fun s' k' u v w => c s' k' u v (by omega)⟩
    · exact Or.inr q
  | succ d ih =>
    intro s hs x1 ms dg m hQ hI
    obtain ⟨j1, j2, j3⟩ := hI
    have hs6 : s < 6 := by omega
    refine br_f (nI_ge (b := 6) (by omega) (by decide)) ?_
    refine xe_w H h18 ok hmA j1 j2 hs6 hk (fun r dg hd => ?_)
    have mj := j1 (12 * s + k) (by omega)
    have rok := me_dsok H j2 hs6 hk hd
    have rl := me_okL rok
    show vp_in ((12 * nI s) + nI k) 72 ∧ _
    rw [xm_iy]
    refine ⟨vp_in_nI (by omega) (by decide), ?_⟩
    refine pk_lt (m (12 * s + k)) r (fun c => ?_) (fun c => ?_) (by rw [nI_clamp (by omega)]; exact mj.1) rfl (by omega) (by omega)
    · refine ⟨vp_in_nI (by omega) (by decide), nm_r (xa_upc (by omega)) (nm_r (nI_1 s) ?_)⟩
      obtain ⟨i1, i2⟩ := me_stI H j2 j3 hs6 hk hd
      refine ih (s + 1) (by omega) 1 _ _ (fun i => if i = 12 * s + k then r else m i) (Or.inr ⟨rfl, ?_⟩) ⟨fun i hi => ?_, i2, i1⟩
      · have lt := xq_lt c rl 72 (by omega)
        rcases hQ with ⟨_, b, _⟩ | q
        · rw [← b]; exact lt
        · have := q.2
          omega
      · show upd ms (12 * s + k) (nI r) i = nI (if i = 12 * s + k then r else m i) ∧ (if i = 12 * s + k then r else m i) ≤ 1000000
        by_cases c2 : i = 12 * s + k
        · rw [if_pos c2, c2, pk_us]; exact ⟨rfl, rl⟩
        · rw [if_neg c2, pk_un c2]; exact j1 i hi
    · refine nm_r (nI_1 s) (ih (s + 1) (by omega) x1 _ _ m ?_ ⟨j1, j2, j3⟩)
      rcases hQ with ⟨a, b, e⟩ | q
      · refine Or.inl ⟨a, b, fun s' k' u v w => ?_⟩
        by_cases c2 : k' = k ∧ s' = s
        · obtain ⟨rfl, rfl⟩ := c2
          exact ⟨r, hd, c⟩
        · exact e s' k' u v (by omega)
      · exact Or.inr q
theorem xv_64 {post : SX → Prop} {J51 : Int32 → Int32 → Int32 → Int32 → Int32 → Int32 → (Nat → Int32) → (Nat → Int32) → (Nat → Int32) → (Nat → Int32) → (Nat → Int32) → (Nat → Int32) → (Nat → Int32) → (Nat → Int32) → (Nat → Int32) → (Nat → Int32) → Prop}
    {m0 : Nat → Nat} (H : me_H tk E n) (h18 : ∀ i, tk i ≤ 18) (ok : xp_ok tk n E tE sT bi dO) (hmA : ∀ d, d < 4 → mA d = nI (me_c tk E n d))
    (hend : ∀ x1 ms dg m, xq_P tk E n nx mq m0 0 x1 m → xq_J tk E n nx mq ms m → J51 x1 (nI n) pa is de so nx mq (xa_r tk) tE sT bi dO ms mA dg) :
    ∀ j, j ≤ n → ∀ N, j < N → ∀ x1 ms dg m, xq_P tk E n nx mq m0 j x1 m → xq_J tk E n nx mq ms m → wX_solve_64 post J51 N x1 (nI j + (-1)) (nI n) pa is de so nx mq (xa_r tk) tE sT bi dO ms mA dg := by
  intro j
  induction j with
  | zero =>
    intro _ N hN x1 ms dg m hP hI
    obtain ⟨N, rfl⟩ : ∃ M, N = M + 1 := ⟨N - 1, by omega⟩
    exact br_t xa_m0 (hend _ _ _ m hP hI)
  | succ k ih =>
    intro hk N hN x1 ms dg m hP hI
    obtain ⟨N, rfl⟩ : ∃ M, N = M + 1 := ⟨N - 1, by omega⟩
    have h12 := H.2.2.2
    rw [pk_m1]
    refine br_f (nI_pos (by omega)) ⟨7, ?_⟩
    refine xv_70 H h18 ok hmA (by omega) (fun x1 ms dg m a b => ih (by omega) N (by omega) x1 ms dg m a b) 6 0 (by omega) x1 ms dg m ?_ hI
    rcases hP with ⟨a, b, c⟩ | q
    · exact Or.inl ⟨a, b, fun s' k' u v w => c s' k' u v (by omega)⟩
    · exact Or.inr q
theorem xv_51 {post : SX → Prop} (H : me_H tk E n) (h18 : ∀ i, tk i ≤ 18) (ok : xp_ok tk n E tE sT bi dO) (hmA : ∀ d, d < 4 → mA d = nI (me_c tk E n d))
    (hp : ∀ ms dg m, xq_J tk E n nx mq ms m → (∀ s k, s < 6 → k < n → xq_ok tk E n nx mq m s k) → post (nI n, pa, is, de, so, nx, mq, xa_r tk, tE, sT, bi, dO, ms, mA, dg)) :
    ∀ F ms dg m, xq_s m 72 < F → xq_J tk E n nx mq ms m → wX_solve_51 post (F + 1) 1 (nI n) pa is de so nx mq (xa_r tk) tE sT bi dO ms mA dg := by
  intro F
  induction F with
  | zero => intro ms dg m h; omega
  | succ F ih =>
    intro ms dg m hF hI
    refine br_f (by decide) (nm_r (xa_s1 _) ⟨n + 1, ?_⟩)
    refine xv_64 (m0 := m) H h18 ok hmA (fun x1 ms dg m' hP hI' => ?_) n (Nat.le_refl _) (n + 1) (by omega) 0 ms dg m (Or.inl ⟨rfl, rfl, fun s' k' u v w => by omega⟩) hI
    rcases hP with ⟨a, b, c⟩ | ⟨a, b⟩
    · rw [a]
      exact br_t rfl (hp _ _ m' hI' (fun s k u v => c s k u v (Nat.zero_le _)))
    · rw [a]
      exact ih ms dg m' (by omega) hI'
theorem xv_30 {post : SX → Prop} (H : me_H tk E n) (h18 : ∀ i, tk i ≤ 18) (ok : xp_ok tk n E tE sT bi dO) (hmA : ∀ d, d < 4 → mA d = nI (me_c tk E n d))
    (hp : ∀ ms dg m, xq_J tk E n nx mq ms m → (∀ s k, s < 6 → k < n → xq_ok tk E n nx mq m s k) → post (nI n, pa, is, de, so, nx, mq, xa_r tk, tE, sT, bi, dO, ms, mA, dg)) :
    ∀ d p, p + d = 72 → ∀ ms, (∀ i, i < p → ms i = nI 0) → wX_solve_30 post (nI n) pa is de so (d + 1) (nI p) nx mq (xa_r tk) tE sT bi dO ms mA dg := by
  intro d
  induction d with
  | zero =>
    intro p hd ms hm
    refine br_t (nI_le (a := 72) (by omega) (by omega)) ⟨_, xv_51 H h18 ok hmA hp (xq_s (fun _ => 0) 72 + 1) ms dg (fun _ => 0) (by omega) ?_⟩
    have z0 : me_ok (me_c tk E n) 0 := Or.inr ⟨by decide, Nat.zero_le _, Nat.zero_le _, Nat.zero_le _, Nat.zero_le _⟩
    exact ⟨fun i hi => ⟨hm i (by omega), Nat.zero_le _⟩, fun i hi => z0, me_I0 _ (fun i hi => rfl) H.2.2.2⟩
  | succ d ih =>
    intro p hd ms hm
    refine br_f (nI_ge (b := 72) (by omega) (by decide)) ⟨vp_in_nI (by omega) (by decide), nm_r (e' := upd ms p (nI 0)) (by rw [nI_clamp (by omega)]; rfl) (nm_r (nI_1 p) (ih (p + 1) (by omega) _ ?_))⟩
    intro j hj
    by_cases q : j = p
    · subst q; exact pk_us
    · rw [pk_un q]; exact hm j (by omega)
/-- the component's own invariant -/
def xr_A (tk : Nat → Nat) (n : Nat) (E : Nat → Nat) (nx mq ms : Nat → Int32) : Prop :=
  ∀ s, s < 6 → ∃ x, ms (12 * s) = nI x ∧ x ≤ 1000000 ∧ (x < 1000000 ↔ se_m tk E n (xa_b nx) (xa_b mq) 0 (fun _ _ => false) s = true)
def xr_I (tk : Nat → Nat) (n : Nat) (nx mq : Nat → Int32) (pa is de so : Int32) (tE sT bi dO ms : Nat → Int32) : Prop :=
  (pa = 0 → so = 0) ∧ (¬ pa = 0 → (is = 0 ∧ ¬ ∃ E, fo_Sd tk n E) ∨ (is = 1 ∧ ∃ E, fo_Sd tk n E ∧ xp_ok tk n E tE sT bi dO ∧ de = nI (fo_dm tk E n))) ∧ (¬ so = 0 → ∀ E, fo_Sd tk n E → xr_A tk n E nx mq ms)
theorem xr_p {post : SX → Prop} (hn : n ≤ 12) (h18 : ∀ i, tk i ≤ 18) (I : xr_I tk n nx mq pa is de so tE sT bi dO ms)
    (hp : ∀ pa is de tE sT bi dO, ¬ pa = 0 → xr_I tk n nx mq pa is de so tE sT bi dO ms → post (nI n, pa, is, de, so, nx, mq, xa_r tk, tE, sT, bi, dO, ms, mA, dg)) : wpX_parse post (nI n, pa, is, de, so, nx, mq, xa_r tk, tE, sT, bi, dO, ms, mA, dg) := by
  by_cases c : pa = 0
  · subst c
    have hso := I.1 rfl
    refine xp_w0 hn h18 (fun de tE sT bi dO hno => ?_) (fun E tE sT bi dO sd ok => ?_)
    · exact hp 1 0 de tE sT bi dO (by decide) ⟨fun z => absurd z (by decide), fun _ => Or.inl ⟨rfl, hno⟩, fun z => absurd hso z⟩
    · exact hp 1 1 _ tE sT bi dO (by decide) ⟨fun z => absurd z (by decide), fun _ => Or.inr ⟨rfl, E, sd, ok, rfl⟩, fun z => absurd hso z⟩
  · exact xp_w1 c (hp _ _ _ _ _ _ _ c I)
theorem xr_v {post : SX → Prop} (hn : n ≤ 12) (h18 : ∀ i, tk i ≤ 18) (I : xr_I tk n nx mq pa is de so tE sT bi dO ms)
    (hbad : ∀ pa de tE sT bi dO, (¬ ∃ E, fo_Sd tk n E) → xr_I tk n nx mq pa 0 de so tE sT bi dO ms → post (nI n, pa, 0, de, so, nx, mq, xa_r tk, tE, sT, bi, dO, ms, mA, dg))
    (hgood : ∀ pa de so tE sT bi dO ms mA dg E, fo_Sd tk n E → xr_A tk n E nx mq ms → xr_I tk n nx mq pa 1 de so tE sT bi dO ms → post (nI n, pa, 1, de, so, nx, mq, xa_r tk, tE, sT, bi, dO, ms, mA, dg)) : wpX_solve post (nI n, pa, is, de, so, nx, mq, xa_r tk, tE, sT, bi, dO, ms, mA, dg) := by
  unfold wpX_solve
  dsimp only
  refine xr_p hn h18 I (fun pa is de tE sT bi dO hpa I => ?_)
  show (so = 0 → _) ∧ (¬ so = 0 → _)
  rcases I.2.1 hpa with ⟨e, hno⟩ | ⟨e, E, sd, ok, ed⟩
  · subst e
    by_cases c : so = 0
    · exact br_t c (br_t rfl (hbad _ _ _ _ _ _ hno I))
    · exact br_f c (hbad _ _ _ _ _ _ hno I)
  · subst e
    by_cases c : so = 0
    · refine br_t c (br_f (by show ¬ (1 : Int32) = 0; decide) ?_)
      have H := me_HS sd h18 hn
      refine xc_w hn h18 ok.2.2.2 H.2.2.1 (fun mA hmA => ?_)
      refine ⟨73, xv_30 (mA := mA) (dg := dg) H h18 ok hmA (fun ms dg m hJ hok => ?_) 72 0 (by omega) ms (fun i hi => absurd hi (Nat.not_lt_zero _))⟩
      have hA : xr_A tk n E nx mq ms := by
        intro s hs
        have r := hJ.1 (12 * s) (by omega)
        exact ⟨m (12 * s), r.1, r.2, me_end H sd.2.2.1 hJ.2.1 hJ.2.2 hok hs⟩
      refine hgood _ _ _ _ _ _ _ _ _ _ E sd hA ⟨fun z => absurd z hpa, fun _ => Or.inr ⟨rfl, E, sd, ok, ed⟩, fun _ E' sd' => ?_⟩
      rw [← fo_Su sd sd']
      exact hA
    · exact br_f c (hgood _ _ _ _ _ _ _ _ _ _ E sd (I.2.2 c E sd) I)
end
end
section
/-! sets as ints; the component's answers -/
def rp_R (x : Int32) (S : Nat → Bool) : Prop := ∀ i, i < 32 → bt x i = (decide (i < 6) && S i)
theorem rp_u {x y : Int32} {S : Nat → Bool} (h : rp_R x S) (g : rp_R y S) : x = y := b_ext (fun i hi => by rw [h i hi, g i hi])
theorem rp_s {j i : Nat} (hj : j < 32) (hi : i < 32) : bt ((1 : Int32) <<< (nI j &&& 31)) i = decide (i = j) := by
  rw [b_shl j hj 1 hi, xo_1 (i - j) (by omega)]
  by_cases c : i = j
  · subst c
    rw [decide_eq_true (Nat.le_refl i), decide_eq_true (Nat.sub_self i), decide_eq_true rfl]
    rfl
  · rw [decide_eq_false c]
    by_cases d : j ≤ i
    · rw [decide_eq_false (by omega : ¬ i - j = 0), Bool.and_false]
    · rw [decide_eq_false d, Bool.false_and]
theorem rp_q {x : Int32} {S T : Nat → Bool} (h : rp_R x S) (q : ev_q S T) : rp_R x T := by
  intro i hi
  rw [h i hi]
  by_cases c : i < 6
  · rw [decide_eq_true c, Bool.true_and, Bool.true_and]
    cases z : T i
    · cases y : S i
      · rfl
      · exact absurd (q.1 i c y) (by rw [z]; decide)
    · exact q.2 i c z
  · rw [decide_eq_false c]; rfl
section
variable {n : Nat} {tk E : Nat → Nat} {pa is de so : Int32} {nx mq tE sT bi dO ms mA dg : Nat → Int32}
def xt_S (tk E : Nat → Nat) (n : Nat) (nx mq : Nat → Int32) : Nat → Bool := se_m tk E n (xa_b nx) (xa_b mq) 0 (fun _ _ => false)
theorem xt_18 {post : Int32 → SX → Prop} (hA : xr_A tk n E nx mq ms) (hp : ∀ x, rp_R x (xt_S tk E n nx mq) → post x (nI n, pa, is, de, so, nx, mq, xa_r tk, tE, sT, bi, dO, ms, mA, dg)) :
    ∀ d j, j + d = 6 → ∀ x, (∀ i, i < 32 → bt x i = (decide (i < j) && xt_S tk E n nx mq i)) → wX_set_18 post (nI n) pa is de so nx mq (xa_r tk) tE sT bi dO ms mA dg (d + 1) x (nI j) := by
  intro d
  induction d with
  | zero =>
    intro j hj x hx
    have e : j = 6 := by omega
    subst e
    exact br_t (nI_le (a := 6) (by omega) (by omega)) (hp x hx)
  | succ d ih =>
    intro j hj x hx
    obtain ⟨y, hy, hl, hi⟩ := hA j (by omega)
    refine br_f (nI_ge (b := 6) (by omega) (by decide)) ?_
    rw [show (12 : Int32) * nI j = nI (12 * j) from pk_mul 12 j]
    refine ⟨vp_in_nI (by omega) (by decide), ?_⟩
    refine pk_le 1000000 y (fun c => nm_r (nI_1 j) (ih (j + 1) (by omega) x (fun i h32 => ?_))) (fun c => nm_e (nm_r (nI_1 j) (ih (j + 1) (by omega) _ (fun i h32 => ?_)))) rfl (by rw [nI_clamp (by omega)]; exact hy) (by omega) (by omega)
    · rw [hx i h32]
      by_cases q : i = j
      · subst q
        have : xt_S tk E n nx mq i = false := by
          cases z : xt_S tk E n nx mq i
          · rfl
          · have := hi.2 z
            omega
        rw [this, Bool.and_false, Bool.and_false]
      · by_cases q2 : i < j
        · rw [decide_eq_true q2, decide_eq_true (by omega : i < j + 1)]
        · rw [decide_eq_false q2, decide_eq_false (by omega : ¬ i < j + 1)]
    · rw [b_or, hx i h32, rp_s (by omega) h32]
      by_cases q : i = j
      · subst q
        have : xt_S tk E n nx mq i = true := hi.1 c
        rw [this, decide_eq_true rfl, decide_eq_true (by omega : i < i + 1), Bool.or_true]
        rfl
      · rw [decide_eq_false q, Bool.or_false]
        by_cases q2 : i < j
        · rw [decide_eq_true q2, decide_eq_true (by omega : i < j + 1)]
        · rw [decide_eq_false q2, decide_eq_false (by omega : ¬ i < j + 1)]
theorem xt_set {post : Int32 → SX → Prop} (hn : n ≤ 12) (h18 : ∀ i, tk i ≤ 18) (I : xr_I tk n nx mq pa is de so tE sT bi dO ms)
    (hbad : ∀ pa de tE sT bi dO, (¬ ∃ E, fo_Sd tk n E) → xr_I tk n nx mq pa 0 de so tE sT bi dO ms → post (-3) (nI n, pa, 0, de, so, nx, mq, xa_r tk, tE, sT, bi, dO, ms, mA, dg))
    (hgood : ∀ pa de so tE sT bi dO ms mA dg E x, fo_Sd tk n E → rp_R x (xt_S tk E n nx mq) → xr_I tk n nx mq pa 1 de so tE sT bi dO ms → post x (nI n, pa, 1, de, so, nx, mq, xa_r tk, tE, sT, bi, dO, ms, mA, dg)) : wpX_set post (nI n, pa, is, de, so, nx, mq, xa_r tk, tE, sT, bi, dO, ms, mA, dg) := by
  unfold wpX_set
  dsimp only
  refine xr_v hn h18 I (fun pa de tE sT bi dO hno I => ?_) (fun pa de so tE sT bi dO ms mA dg E sd hA I => ?_)
  · exact br_t rfl (hbad _ _ _ _ _ _ hno I)
  · refine br_f (by show ¬ (1 : Int32) = 0; decide) ⟨7, ?_⟩
    refine xt_18 hA (fun x hx => ?_) 6 0 (by omega) 0 (fun i hi => ?_)
    · exact hgood _ _ _ _ _ _ _ _ _ _ E x sd hx I
    · rw [b_0, decide_eq_false (by omega : ¬ i < 0)]; rfl
theorem xt_holds0 {post : Int32 → SX → Prop} {x : Int32} (h : x < 0 ∨ nI 6 ≤ x) (hp : post 0 (nI n, pa, is, de, so, nx, mq, xa_r tk, tE, sT, bi, dO, ms, mA, dg)) : wpX_holds post (nI n, pa, is, de, so, nx, mq, xa_r tk, tE, sT, bi, dO, ms, mA, dg) x := by
  unfold wpX_holds
  dsimp only
  refine xs_is0 h ?_
  exact br_t rfl hp
theorem xt_holds1 {post : Int32 → SX → Prop} {s : Nat} (hs : s < 6) (hn : n ≤ 12) (h18 : ∀ i, tk i ≤ 18) (I : xr_I tk n nx mq pa is de so tE sT bi dO ms)
    (hbad : ∀ pa de tE sT bi dO, (¬ ∃ E, fo_Sd tk n E) → xr_I tk n nx mq pa 0 de so tE sT bi dO ms → post 0 (nI n, pa, 0, de, so, nx, mq, xa_r tk, tE, sT, bi, dO, ms, mA, dg))
    (hgood : ∀ pa de so tE sT bi dO ms mA dg E, fo_Sd tk n E → xr_I tk n nx mq pa 1 de so tE sT bi dO ms → post (if xt_S tk E n nx mq s = true then 1 else 0) (nI n, pa, 1, de, so, nx, mq, xa_r tk, tE, sT, bi, dO, ms, mA, dg)) : wpX_holds post (nI n, pa, is, de, so, nx, mq, xa_r tk, tE, sT, bi, dO, ms, mA, dg) (nI s) := by
  unfold wpX_holds
  dsimp only
  refine xs_is1 hs ?_
  refine br_f (by decide) ?_
  refine xr_v hn h18 I (fun pa de tE sT bi dO hno I => ?_) (fun pa de so tE sT bi dO ms mA dg E sd hA I => ?_)
  · exact br_t rfl (hbad _ _ _ _ _ _ hno I)
  · refine br_f (by show ¬ (1 : Int32) = 0; decide) ?_
    obtain ⟨y, hy, hl, hi⟩ := hA s hs
    have g := hgood _ de _ tE sT bi dO ms mA dg E sd I
    rw [show (12 : Int32) * nI s = nI (12 * s) from pk_mul 12 s]
    refine ⟨vp_in_nI (by omega) (by decide), ?_⟩
    refine pk_le 1000000 y (fun c => ?_) (fun c => ?_) rfl (by rw [nI_clamp (by omega)]; exact hy) (by omega) (by omega)
    · rw [if_neg (fun z => by have := hi.2 z; omega)] at g
      exact g
    · rw [if_pos (show xt_S tk E n nx mq s = true from hi.1 c)] at g
      exact g
theorem xt_sound {post : Int32 → SX → Prop} (hn : n ≤ 12) (h18 : ∀ i, tk i ≤ 18) (I : xr_I tk n nx mq pa is de so tE sT bi dO ms)
    (hbad : ∀ pa de tE sT bi dO, (¬ ∃ E, fo_Sd tk n E) → xr_I tk n nx mq pa 0 de so tE sT bi dO ms → post 0 (nI n, pa, 0, de, so, nx, mq, xa_r tk, tE, sT, bi, dO, ms, mA, dg))
    (hgood : ∀ pa de tE sT bi dO E, fo_Sd tk n E → xr_I tk n nx mq pa 1 de so tE sT bi dO ms → post 1 (nI n, pa, 1, de, so, nx, mq, xa_r tk, tE, sT, bi, dO, ms, mA, dg)) : wpX_sound post (nI n, pa, is, de, so, nx, mq, xa_r tk, tE, sT, bi, dO, ms, mA, dg) := by
  unfold wpX_sound
  dsimp only
  refine xr_p hn h18 I (fun pa is de tE sT bi dO hpa I => ?_)
  rcases I.2.1 hpa with ⟨e, hno⟩ | ⟨e, E, sd, ok, ed⟩
  · subst e
    exact ⟨narrow_b0, hbad _ _ _ _ _ _ hno I⟩
  · subst e
    exact ⟨narrow_b1, hgood _ _ _ _ _ _ E sd I⟩
theorem xt_depth {post : Int32 → SX → Prop} (hn : n ≤ 12) (h18 : ∀ i, tk i ≤ 18) (I : xr_I tk n nx mq pa is de so tE sT bi dO ms)
    (hbad : ∀ pa de tE sT bi dO, (¬ ∃ E, fo_Sd tk n E) → xr_I tk n nx mq pa 0 de so tE sT bi dO ms → post (-3) (nI n, pa, 0, de, so, nx, mq, xa_r tk, tE, sT, bi, dO, ms, mA, dg))
    (hgood : ∀ pa de tE sT bi dO E, fo_Sd tk n E → xr_I tk n nx mq pa 1 de so tE sT bi dO ms → post (nI (fo_dm tk E n)) (nI n, pa, 1, de, so, nx, mq, xa_r tk, tE, sT, bi, dO, ms, mA, dg)) : wpX_depth post (nI n, pa, is, de, so, nx, mq, xa_r tk, tE, sT, bi, dO, ms, mA, dg) := by
  unfold wpX_depth
  dsimp only
  refine xr_p hn h18 I (fun pa is de tE sT bi dO hpa I => ?_)
  rcases I.2.1 hpa with ⟨e, hno⟩ | ⟨e, E, sd, ok, ed⟩
  · subst e
    exact br_t rfl (hbad _ _ _ _ _ _ hno I)
  · subst e
    have g := hgood _ de tE sT bi dO E sd I
    rw [← ed] at g
    exact br_f (by show ¬ (1 : Int32) = 0; decide) g
end
end
section
/-! the reference: simple methods, sound, depth -/
section
variable {n : Nat} {tk E : Nat → Nat} {nx mq en bn fi bo sk : Nat → Int32}
theorem ys_is0 {post : Int32 → Prop} {x : Int32} (h : x < 0 ∨ nI 6 ≤ x) (hp : post 0) : wpY_isState post (nI n, nx, mq, xa_r tk, en, bn, fi, bo, sk) x := by
  unfold wpY_isState
  by_cases c : x < 0
  · exact br_t c hp
  · refine br_f c (br_t ?_ hp)
    have h6 := h.resolve_left c
    exact Int32.lt_of_lt_of_le (by decide : (5 : Int32) < nI 6) h6
theorem ys_is1 {post : Int32 → Prop} {j : Nat} (h : j < 6) (hp : post 1) : wpY_isState post (nI n, nx, mq, xa_r tk, en, bn, fi, bo, sk) (nI j) := by
  unfold wpY_isState
  exact br_f (nI_pos (by omega)) (br_f (nI_nlt (a := 5) (b := j) (by omega) (by omega) : ¬ nI 5 < nI j) hp)
theorem ys_step0 {post : Int32 → SY → Prop} {x y b : Int32} (h : (x < 0 ∨ nI 6 ≤ x) ∨ ((∃ j, j < 6 ∧ x = nI j) ∧ (y < 0 ∨ nI 6 ≤ y))) (hp : post 0 (nI n, nx, mq, xa_r tk, en, bn, fi, bo, sk)) : wpY_step post (nI n, nx, mq, xa_r tk, en, bn, fi, bo, sk) x y b := by
  unfold wpY_step
  dsimp only
  rcases h with h | ⟨⟨j, hj, e⟩, h⟩
  · refine ys_is0 h ?_
    exact br_t rfl hp
  · subst e
    refine ys_is1 hj ?_
    refine br_f (by decide) ?_
    refine ys_is0 h ?_
    exact br_t rfl hp
theorem ys_step1 {post : Int32 → SY → Prop} {s t : Nat} {b : Int32} (hs : s < 6) (ht : t < 6) (hp : post 1 (nI n, xs_nx nx s t b, mq, xa_r tk, en, bn, fi, bo, sk)) : wpY_step post (nI n, nx, mq, xa_r tk, en, bn, fi, bo, sk) (nI s) (nI t) b := by
  unfold wpY_step
  dsimp only
  refine ys_is1 hs ?_
  refine br_f (by decide) ?_
  refine ys_is1 ht ?_
  refine br_f (by decide) ?_
  by_cases c : b = 0
  · refine br_t c ⟨vp_in_nI hs (by decide), vp_in_nI hs (by decide), nm_r (e' := xs_nx nx s t b) ?_ hp⟩
    unfold xs_nx
    rw [nI_clamp (by omega), if_pos c]
  · refine br_f c ⟨vp_in_nI hs (by decide), vp_in_nI hs (by decide), nm_r (e' := xs_nx nx s t b) ?_ hp⟩
    unfold xs_nx
    rw [nI_clamp (by omega), if_neg c]
theorem ys_mark0 {post : Int32 → SY → Prop} {x y : Int32} (h : x < 0 ∨ 2 < x ∨ y < 0 ∨ ¬ y ≤ 63) (hp : post 0 (nI n, nx, mq, xa_r tk, en, bn, fi, bo, sk)) : wpY_mark post (nI n, nx, mq, xa_r tk, en, bn, fi, bo, sk) x y := by
  unfold wpY_mark
  dsimp only
  by_cases c1 : x < 0
  · exact br_t c1 hp
  refine br_f c1 ?_
  by_cases c2 : 2 < x
  · exact br_t c2 hp
  refine br_f c2 ?_
  by_cases c3 : y < 0
  · exact br_t c3 hp
  refine br_f c3 (br_f ?_ hp)
  rcases h with h | h | h | h
  · exact absurd h c1
  · exact absurd h c2
  · exact absurd h c3
  · exact h
theorem ys_mark1 {post : Int32 → SY → Prop} {i : Nat} {y : Int32} (hi : i < 3) (h1 : ¬ y < 0) (h2 : y ≤ 63) (hp : post 1 (nI n, nx, upd mq i y, xa_r tk, en, bn, fi, bo, sk)) : wpY_mark post (nI n, nx, mq, xa_r tk, en, bn, fi, bo, sk) (nI i) y := by
  unfold wpY_mark
  dsimp only
  refine br_f (nI_pos (by omega)) (br_f (nI_nlt (a := 2) (b := i) (by omega) (by omega) : ¬ nI 2 < nI i) (br_f h1 (br_t h2 ⟨vp_in_nI hi (by decide), nm_r (xa_upc (by omega)) hp⟩)))
theorem ys_token {post : Int32 → SY → Prop} {x : Int32} (hn : n ≤ 12) (h1 : n = 12 → post (-2) (nI n, nx, mq, xa_r tk, en, bn, fi, bo, sk)) (h2 : n < 12 → (x < 0 ∨ ¬ x ≤ 18) → post (-1) (nI n, nx, mq, xa_r tk, en, bn, fi, bo, sk))
    (h3 : ∀ t, n < 12 → t ≤ 18 → x = nI t → post (nI (n + 1)) (nI (n + 1), nx, mq, xa_r (xa_u tk n t), en, bn, fi, bo, sk)) : wpY_token post (nI n, nx, mq, xa_r tk, en, bn, fi, bo, sk) x := by
  unfold wpY_token
  dsimp only
  refine pk_eq n 12 (fun c => h1 c) (fun c => ?_)
  have c' : n < 12 := by omega
  by_cases c1 : x < 0
  · exact br_t c1 (h2 c' (Or.inl c1))
  refine br_f c1 ?_
  by_cases c2 : x ≤ 18
  · obtain ⟨t, ht, e⟩ := nI_of2 (M := 18) (n := 18) (by decide) c1 c2
    subst e
    refine br_t c2 ⟨vp_in_nI c' (by decide), nm_r (e' := xa_r (xa_u tk n t)) ?_ (nm_r (nI_1 n) (h3 t c' ht rfl))⟩
    rw [xa_upc (by omega), xa_up]
  · exact br_f c2 (h2 c' (Or.inr c2))
theorem ys_wipe {post : Int32 → SY → Prop} (hp : post (nI n) (nI 0, nx, mq, xa_r tk, en, bn, fi, bo, sk)) : wpY_wipe post (nI n, nx, mq, xa_r tk, en, bn, fi, bo, sk) := by
  unfold wpY_wipe
  exact hp
theorem ys_steps0 {post : Int32 → Prop} {x : Int32} (h : x < 0 ∨ nI 6 ≤ x) (hp : post (-1)) : wpY_steps post (nI n, nx, mq, xa_r tk, en, bn, fi, bo, sk) x := by
  unfold wpY_steps
  dsimp only
  refine ys_is0 h ?_
  exact br_t rfl hp
theorem ys_steps1 {post : Int32 → Prop} {s : Nat} (hs : s < 6) (hp : post (nx s)) : wpY_steps post (nI n, nx, mq, xa_r tk, en, bn, fi, bo, sk) (nI s) := by
  unfold wpY_steps
  dsimp only
  refine ys_is1 hs ?_
  refine br_f (by decide) ⟨vp_in_nI hs (by decide), ?_⟩
  rw [nI_clamp (by omega)]
  exact hp
theorem ys_bi {post : Int32 → Prop} {t : Nat} (ht : t ≤ 18) (h1 : fo_b t → post 1) (h0 : ¬ fo_b t → post 0) : wpY_binds post (nI n, nx, mq, xa_r tk, en, bn, fi, bo, sk) (nI t) := by
  unfold wpY_binds
  exact pk_lt t 10 (fun c => h0 (by omega)) (fun c => pk_lt 15 t (fun d => h0 (by omega)) (fun d => h1 (by omega)))
theorem ys_ar {post : Int32 → Prop} {t : Nat} (ht : t ≤ 18) (hp : post (nI (fo_ar t))) : wpY_arity post (nI n, nx, mq, xa_r tk, en, bn, fi, bo, sk) (nI t) := by
  unfold wpY_arity
  refine pk_eq t 6 (fun c => ?_) (fun c => pk_eq t 7 (fun d => ?_) (fun d => pk_lt t 8 (fun e => ?_) (fun e => pk_lt 15 t (fun f => ?_) (fun f => ?_))))
  · rw [fo_ar2 (Or.inl c)] at hp; exact hp
  · rw [fo_ar2 (Or.inr d)] at hp; exact hp
  · rw [fo_ar0 (by omega)] at hp; exact hp
  · rw [fo_ar0 (by omega)] at hp; exact hp
  · rw [fo_ar1 (by omega) (by omega)] at hp; exact hp
/-! findEnds -/
theorem yf_fin {post : Int32 → SY → Prop} {J : Int32 → (Nat → Int32) → (Nat → Int32) → (Nat → Int32) → (Nat → Int32) → (Nat → Int32) → (Nat → Int32) → (Nat → Int32) → (Nat → Int32) → Prop}
    {k N : Nat} {e x4 : Int32} (h18 : ∀ i, tk i ≤ 18) (hx : nI (fo_ar (tk k)) ≤ x4) (hk : k < 12) (hJ : J (nI k + (-1)) nx mq (xa_r tk) (upd en k e) bn fi bo sk) : wY_findEnds_17 post J (nI k) (nI n) nx mq (xa_r tk) en bn fi bo sk (N + 1) e x4 := by
  refine And.intro (vp_in_nI hk (by decide)) ?_
  rw [xa_cl (by omega)]
  refine ys_ar (h18 k) ?_
  exact br_t hx ⟨vp_in_nI (by omega) (by decide), nm_r (xa_upc (by omega)) (nm_e hJ)⟩
theorem yf_go {post : Int32 → SY → Prop} {J : Int32 → (Nat → Int32) → (Nat → Int32) → (Nat → Int32) → (Nat → Int32) → (Nat → Int32) → (Nat → Int32) → (Nat → Int32) → (Nat → Int32) → Prop}
    {k e N : Nat} {x4 : Int32} (h18 : ∀ i, tk i ≤ 18) (hx : ¬ nI (fo_ar (tk k)) ≤ x4) (hk : k < 12) (he : e < n) (hn : n ≤ 12) (h : wY_findEnds_17 post J (nI k) (nI n) nx mq (xa_r tk) en bn fi bo sk N (en e) (x4 + 1)) : wY_findEnds_17 post J (nI k) (nI n) nx mq (xa_r tk) en bn fi bo sk (N + 1) (nI e) x4 := by
  refine And.intro (vp_in_nI hk (by decide)) ?_
  rw [xa_cl (by omega)]
  refine ys_ar (h18 k) ?_
  exact br_f hx (br_t (nI_lt he (by omega)) ⟨vp_in_nI (by omega) (by decide), nm_r (xa_cla (by omega)) (nm_e h)⟩)
theorem yf_fail {post : Int32 → SY → Prop} {J : Int32 → (Nat → Int32) → (Nat → Int32) → (Nat → Int32) → (Nat → Int32) → (Nat → Int32) → (Nat → Int32) → (Nat → Int32) → (Nat → Int32) → Prop}
    {k e N : Nat} {x4 : Int32} (h18 : ∀ i, tk i ≤ 18) (hx : ¬ nI (fo_ar (tk k)) ≤ x4) (hk : k < 12) (he : n ≤ e) (he2 : e < 128) (h : post 0 (nI n, nx, mq, xa_r tk, en, bn, fi, bo, sk)) : wY_findEnds_17 post J (nI k) (nI n) nx mq (xa_r tk) en bn fi bo sk (N + 1) (nI e) x4 := by
  refine And.intro (vp_in_nI hk (by decide)) ?_
  rw [xa_cl (by omega)]
  refine ys_ar (h18 k) ?_
  exact br_f hx (br_f (nI_nlt he (by omega)) h)
theorem yf_7 {post : Int32 → SY → Prop} (hn : n ≤ 12) (h18 : ∀ i, tk i ≤ 18)
    (hbad : ∀ en, (¬ ∃ E', fo_Sd tk n E') → post 0 (nI n, nx, mq, xa_r tk, en, bn, fi, bo, sk))
    (hgood : ∀ E en, fo_wf tk n E 0 → 0 < n → E 0 = n → (∀ i, i < n → en i = nI (E i)) → (∀ i, n ≤ i → E i = 0) → post 1 (nI n, nx, mq, xa_r tk, en, bn, fi, bo, sk)) :
    ∀ k, k ≤ n → ∀ E en, fo_wf tk n E k → (∀ i, k ≤ i → i < n → en i = nI (E i)) →
    ∀ N, k < N → wY_findEnds_7 post (nI n) N (nI k + (-1)) nx mq (xa_r tk) en bn fi bo sk := by
  intro k
  induction k with
  | zero =>
    intro hk E en hw h1 N hN
    obtain ⟨N, rfl⟩ : ∃ M, N = M + 1 := ⟨N - 1, by omega⟩
    refine br_t xa_m0 ?_
    refine pk_le n 0 (fun c => ?_) (fun c => ?_)
    · exact hbad _ (fun ⟨E', z⟩ => by have := z.2.2.1; omega)
    · have h0 : 0 < n := by omega
      have e0 := (hw 0 (Nat.le_refl _) h0).2.1
      have zw := xp_zw hw
      refine pk_eq (E 0) n (fun c2 => ?_) (fun c2 => ?_) (h1 0 (Nat.le_refl _) h0)
      · refine hgood (xp_z E n) _ zw h0 (by rw [xp_z1 h0]; exact c2) (fun i hi => ?_) (fun i hi => if_neg (by omega))
        rw [xp_z1 hi]
        exact h1 i (Nat.zero_le _) hi
      · refine hbad _ (fun ⟨E', z⟩ => ?_)
        have := fo_uq hw z.2.1 n 0 (by omega) (Nat.le_refl _) h0
        have := z.2.2.2.1
        omega
  | succ k ih =>
    intro hk E en hw h1 N hN
    obtain ⟨N, rfl⟩ : ∃ M, N = M + 1 := ⟨N - 1, by omega⟩
    have k12 : k < 12 := by omega
    have kn : k < n := by omega
    rw [pk_m1]
    refine br_f (nI_pos (by omega)) (nm_r (nI_1 k) ⟨3, ?_⟩)
    have fin : ∀ e, k < e → e ≤ n → fo_at tk n (xa_u E k e) k → wY_findEnds_7 post (nI n) N (nI k + (-1)) nx mq (xa_r tk) (upd en k (nI e)) bn fi bo sk := by
      intro e e1 e2 ha
      refine ih (by omega) (xa_u E k e) _ (xp_ext hw kn e1 e2 ha) (fun i hi hin => ?_) N (by omega)
      by_cases c : i = k
      · subst c; rw [pk_us, xa_us]
      · rw [pk_un c, xa_un c]; exact h1 i (by omega) hin
    rcases fo_ar3 (tk k) with ar | ar | ar
    · refine yf_fin h18 (by rw [ar]; decide) k12 ?_
      exact fin (k + 1) (by omega) (by omega) ⟨fun _ => xa_us, fun z => by omega, fun z => by omega⟩
    · rcases Nat.lt_or_ge (k + 1) n with c | c
      · refine yf_go h18 (by rw [ar]; decide) k12 c hn ?_
        have q := hw (k + 1) (Nat.le_refl _) c
        have q1 := q.1
        have q2 := q.2.1
        rw [h1 (k + 1) (Nat.le_refl _) c]
        refine yf_fin h18 (by rw [ar]; decide) k12 ?_
        exact fin (E (k + 1)) (by omega) (by omega) ⟨fun z => by omega, fun _ => ⟨c, by rw [xa_us, xa_un (by omega)]⟩, fun z => by omega⟩
      · refine yf_fail h18 (by rw [ar]; decide) k12 c (by omega) ?_
        exact hbad _ (xp_no1 (E := E) kn (by omega) c)
    · rcases Nat.lt_or_ge (k + 1) n with c | c
      · refine yf_go h18 (by rw [ar]; decide) k12 c hn ?_
        have q := hw (k + 1) (Nat.le_refl _) c
        have q1 := q.1
        have q2 := q.2.1
        rw [h1 (k + 1) (Nat.le_refl _) c]
        rcases Nat.lt_or_ge (E (k + 1)) n with c2 | c2
        · refine yf_go h18 (by rw [ar]; decide) k12 c2 hn ?_
          have r := hw (E (k + 1)) (by omega) c2
          have r1 := r.1
          have r2 := r.2.1
          rw [h1 (E (k + 1)) (by omega) c2]
          refine yf_fin h18 (by rw [ar]; decide) k12 ?_
          refine fin (E (E (k + 1))) (by omega) (by omega) ⟨fun z => by omega, fun z => by omega, fun _ => ⟨c, ?_, ?_⟩⟩
          · rw [xa_un (by omega)]; exact c2
          · have g : xa_u E k (E (E (k + 1))) (k + 1) = E (k + 1) := xa_un (by omega)
            rw [xa_us, g, xa_un (by omega)]
        · refine yf_fail h18 (by rw [ar]; decide) k12 c2 (by omega) ?_
          exact hbad _ (xp_no2 hw kn ar c2)
      · refine yf_fail h18 (by rw [ar]; decide) k12 c (by omega) ?_
        exact hbad _ (xp_no1 (E := E) kn (by omega) c)
theorem yf_w {post : Int32 → SY → Prop} (hn : n ≤ 12) (h18 : ∀ i, tk i ≤ 18)
    (hbad : ∀ en, (¬ ∃ E', fo_Sd tk n E') → post 0 (nI n, nx, mq, xa_r tk, en, bn, fi, bo, sk))
    (hgood : ∀ E en, fo_wf tk n E 0 → 0 < n → E 0 = n → (∀ i, i < n → en i = nI (E i)) → (∀ i, n ≤ i → E i = 0) → post 1 (nI n, nx, mq, xa_r tk, en, bn, fi, bo, sk)) : wpY_findEnds post (nI n, nx, mq, xa_r tk, en, bn, fi, bo, sk) := by
  unfold wpY_findEnds
  refine nm_r (xa_s1 _) ⟨n + 1, ?_⟩
  exact yf_7 hn h18 hbad hgood n (Nat.le_refl _) (fun _ => 0) en (fun i a b => by omega) (fun i a b => by omega) (n + 1) (by omega)
/-! binderOf, sound -/
theorem yb_4 {post : Int32 → Prop} {k : Nat} (hk : k < 12) (h16 : 16 ≤ tk k) (h18 : ∀ i, tk i ≤ 18) (hE : ∀ i, i < k → en i = nI (E i) ∧ E i ≤ 12) :
    ∀ j, j ≤ k → post (xf_v (fo_fb tk E k j)) → ∀ N, j < N → wY_binderOf_4 post (nI k) (nI n) nx mq (xa_r tk) en bn fi bo sk N (nI j + (-1)) := by
  intro j
  induction j with
  | zero =>
    intro _ hp N hN
    obtain ⟨N, rfl⟩ : ∃ M, N = M + 1 := ⟨N - 1, by omega⟩
    exact br_t xa_m0 hp
  | succ j ih =>
    intro hj hp N hN
    obtain ⟨N, rfl⟩ : ∃ M, N = M + 1 := ⟨N - 1, by omega⟩
    have j18 := h18 j
    have k18 := h18 k
    have hEj := hE j (by omega)
    rw [fo_fbs] at hp
    rw [pk_m1]
    refine br_f (nI_pos (by omega)) ⟨vp_in_nI (by omega) (by decide), ?_⟩
    rw [xa_cl (by omega)]
    refine ys_bi j18 (fun b => ?_) (fun b => ?_)
    · refine br_f (by decide) ⟨vp_in_nI (by omega) (by decide), by decide, vp_in_nI hk (by decide), ?_⟩
      have e1 : nI (tk j) - 10 = nI (tk j - 10) := pk_sub (b := 10) b.1
      have e2 : nI (tk j - 10) - nI (tk j - 10) / 3 * 3 = nI ((tk j - 10) % 3) := pk_rem (d := 3) (by omega) (by decide) (by decide)
      have e3 : xa_r tk (nI k).toNatClampNeg - 16 = nI (tk k - 16) := by
        rw [xa_cl (by omega)]
        exact pk_sub (b := 16) h16
      refine pk_eq ((tk j - 10) % 3) (tk k - 16) (fun q => ?_) (fun q => nm_e (ih (by omega) ?_ N (by omega))) (by rw [e1, e2]) e3
      · refine ⟨vp_in_nI (by omega) (by decide), ?_⟩
        refine pk_le (E j) k (fun c => nm_e (ih (by omega) ?_ N (by omega))) (fun c => ?_) (by rw [nI_clamp (by omega)]; exact hEj.1)
        · rw [if_neg (fun z => by have := z.2; omega)] at hp
          exact hp
        · rw [if_pos ⟨by omega, c⟩] at hp
          exact hp
      · rw [if_neg (fun z => by have := z.1; omega)] at hp
        exact hp
    · rw [if_neg (fun z => by have := z.1; omega)] at hp
      exact br_t rfl (nm_e (ih (by omega) hp N (by omega)))
theorem yb_w {post : Int32 → Prop} {k : Nat} (hk : k < 12) (h16 : 16 ≤ tk k) (h18 : ∀ i, tk i ≤ 18) (hE : ∀ i, i < k → en i = nI (E i) ∧ E i ≤ 12) (hp : post (xf_v (fo_fb tk E k k))) : wpY_binderOf post (nI n, nx, mq, xa_r tk, en, bn, fi, bo, sk) (nI k) := by
  unfold wpY_binderOf
  refine nm_r (xa_s1 _) ⟨k + 1, ?_⟩
  exact yb_4 hk h16 h18 hE k (Nat.le_refl _) hp (k + 1) (by omega)
theorem yo_37 {post : Int32 → SY → Prop} {J : Int32 → Int32 → (Nat → Int32) → (Nat → Int32) → (Nat → Int32) → (Nat → Int32) → (Nat → Int32) → (Nat → Int32) → (Nat → Int32) → (Nat → Int32) → Prop}
    {k : Nat} {x1 : Int32} (hk : k < 12) (h18 : ∀ i, tk i ≤ 18) (hE : ∀ i, i < k → en i = nI (E i) ∧ E i ≤ 12)
    (h0 : 16 ≤ tk k → fo_fb tk E k k = 0 → ∀ bn, post 0 (nI n, nx, mq, xa_r tk, en, bn, fi, bo, sk)) (h1 : 16 ≤ tk k → fo_fb tk E k k ≠ 0 → J x1 (nI (k + 1)) nx mq (xa_r tk) en (upd bn k (nI (fo_B tk E k))) fi bo sk)
    (h2 : tk k < 16 → J x1 (nI (k + 1)) nx mq (xa_r tk) en bn fi bo sk) : wY_sound_37 post J x1 (nI k) (nI n) nx mq (xa_r tk) en bn fi bo sk := by
  have k18 := h18 k
  refine And.intro (vp_in_nI hk (by decide)) ?_
  refine pk_lt (tk k) 16 (fun c => nm_r (nI_1 k) (h2 c)) (fun c => ?_) (xa_cl (by omega))
  refine yb_w hk c h18 hE ⟨vp_in_nI hk (by decide), nm_r (xa_upc (by omega)) ⟨vp_in_nI hk (by decide), ?_⟩⟩
  rw [nI_clamp (by omega), pk_us]
  have fl := fo_fbl (tk := tk) (E := E) (k := k) k
  by_cases z : fo_fb tk E k k = 0
  · refine br_f (by rw [z]; decide) ?_
    exact h0 c z _
  · rw [xf_v1 z]
    exact br_t (nI_pos' (by omega)) (nm_r (nI_1 k) (h1 c z))
theorem yo_13 {post : Int32 → SY → Prop} (hn : n ≤ 12) (h18 : ∀ i, tk i ≤ 18) (hE : ∀ i, i < n → en i = nI (E i) ∧ E i ≤ 12)
    (hbad : ∀ bn, ¬ ((∀ i, i < n → 16 ≤ tk i → fo_fb tk E i i ≠ 0) ∧ fo_nb tk n ≤ 4) → post 0 (nI n, nx, mq, xa_r tk, en, bn, fi, bo, sk))
    (hgood : ∀ bn, (∀ i, i < n → 16 ≤ tk i → fo_fb tk E i i ≠ 0 ∧ bn i = nI (fo_B tk E i)) → fo_nb tk n ≤ 4 → post 1 (nI n, nx, mq, xa_r tk, en, bn, fi, bo, sk)) :
    ∀ d k, k + d = n → ∀ bn, (∀ i, i < k → 16 ≤ tk i → fo_fb tk E i i ≠ 0 ∧ bn i = nI (fo_B tk E i)) → wY_sound_13 post (nI n) (d + 1) (nI (fo_nb tk k)) (nI k) nx mq (xa_r tk) en bn fi bo sk := by
  have nbk : ∀ j, fo_nb tk j ≤ j := by
    intro j
    induction j with
    | zero => exact Nat.le_refl _
    | succ j ih =>
      rw [fo_nbs]
      by_cases c : fo_b (tk j)
      · rw [if_pos c]; omega
      · rw [if_neg c]; omega
  intro d
  induction d with
  | zero =>
    intro k hk bn h2
    have e : k = n := by omega
    subst e
    have nk := nbk k
    refine br_t (nI_le (Nat.le_refl _) (by omega)) ?_
    refine pk_lt 4 (fo_nb tk k) (fun c => ?_) (fun c => ?_)
    · exact hbad _ (fun z => by have := z.2; omega)
    · exact hgood _ h2 c
  | succ d ih =>
    intro k hk bn h2
    have k12 : k < 12 := by omega
    have k18 := h18 k
    refine br_f (nI_ge (by omega) (by omega)) ⟨vp_in_nI k12 (by decide), ?_⟩
    rw [xa_cl (by omega)]
    have key : wY_sound_37 post (wY_sound_13 post (nI n) (d + 1)) (nI (fo_nb tk (k + 1))) (nI k) (nI n) nx mq (xa_r tk) en bn fi bo sk := by
      refine yo_37 k12 h18 (fun i hi => hE i (by omega)) (fun z0 z bn => ?_) (fun z0 z => ?_) (fun z0 => ?_)
      · exact hbad _ (fun y => y.1 k (by omega) z0 z)
      · refine ih (k + 1) (by omega) _ (fun i hi h16 => ?_)
        by_cases c : i = k
        · subst c; rw [pk_us]; exact ⟨z, rfl⟩
        · rw [pk_un c]; exact h2 i (by omega) h16
      · refine ih (k + 1) (by omega) _ (fun i hi h16 => ?_)
        by_cases c : i = k
        · subst c; omega
        · exact h2 i (by omega) h16
    rw [fo_nbs] at key
    refine ys_bi k18 (fun b => ?_) (fun b => ?_)
    · rw [if_pos b] at key
      exact br_f (by decide) (nm_r (nI_1 _) key)
    · rw [if_neg b] at key
      exact br_t rfl key
/-- what a sound formula leaves in the reference's arrays -/
def yo_ok (tk : Nat → Nat) (n : Nat) (E : Nat → Nat) (en bn : Nat → Int32) : Prop := (∀ i, i < n → en i = nI (E i)) ∧ (∀ i, i < n → 16 ≤ tk i → bn i = nI (fo_B tk E i))
theorem yo_w {post : Int32 → SY → Prop} (hn : n ≤ 12) (h18 : ∀ i, tk i ≤ 18)
    (hbad : ∀ en bn, (¬ ∃ E', fo_Sd tk n E') → post 0 (nI n, nx, mq, xa_r tk, en, bn, fi, bo, sk)) (hgood : ∀ E en bn, fo_Sd tk n E → yo_ok tk n E en bn → post 1 (nI n, nx, mq, xa_r tk, en, bn, fi, bo, sk)) : wpY_sound post (nI n, nx, mq, xa_r tk, en, bn, fi, bo, sk) := by
  unfold wpY_sound
  dsimp only
  refine yf_w hn h18 (fun en hno => ?_) (fun E en hw h0 he h1 hz => ?_)
  · exact br_t rfl (hbad _ _ hno)
  · refine br_f (by decide) ⟨n + 1, ?_⟩
    refine yo_13 hn h18 (fun i hi => ⟨h1 i hi, ?_⟩) (fun bn z => ?_) (fun bn q2 q3 => ?_) n 0 (by omega) _ (fun i hi => absurd hi (Nat.not_lt_zero _))
    · have := (hw i (Nat.zero_le _) hi).2.1
      omega
    · refine hbad _ _ (fun ⟨E', y⟩ => z ?_)
      have : E = E' := by
        funext i
        rcases Nat.lt_or_ge i n with q | q
        · exact fo_uq hw y.2.1 n i (by omega) (Nat.zero_le _) q
        · rw [y.1 i q, hz i q]
      rw [this]
      exact y.2.2.2.2
    · exact hgood E _ _ ⟨hz, hw, h0, he, fun i hi h16 => (q2 i hi h16).1, q3⟩ ⟨h1, fun i hi h16 => (q2 i hi h16).2⟩
/-! depth -/
def yd_a (tk E : Nat → Nat) (i p : Nat) : Nat := if fo_b (tk i) then fo_dp tk E i p else 0
theorem yd_27 {post : Int32 → SY → Prop} {J : Int32 → Int32 → Prop} {i : Nat} (hi : i < n) (hn : n ≤ 12) (h18 : ∀ i, tk i ≤ 18) (hw : fo_wf tk n E 0) (hE : ∀ i, i < n → en i = nI (E i)) (hdm : fo_dm tk E i ≤ 100)
    (hJ : J (nI (fo_dm tk E (i + 1))) (nI (i + 1))) : ∀ d p, p + d = i + 1 → wY_depth_27 post J (nI (fo_dm tk E i)) (nI i) (nI n) nx mq (xa_r tk) en bn fi bo sk (d + 1) (nI (yd_a tk E i p)) (nI p) := by
  have nbk : ∀ j, fo_nb tk j ≤ j := by
    intro j
    induction j with
    | zero => exact Nat.le_refl _
    | succ j ih =>
      rw [fo_nbs]
      by_cases c : fo_b (tk j)
      · rw [if_pos c]; omega
      · rw [if_neg c]; omega
  have i18 := h18 i
  intro d
  induction d with
  | zero =>
    intro p hp
    have e : p = i + 1 := by omega
    subst e
    refine br_t (nI_lt (by omega) (by omega)) ?_
    have dl := fo_dpn (tk := tk) (E := E) (k := i) i
    have dl2 := nbk i
    rw [fo_dms] at hJ
    by_cases c : fo_b (tk i)
    · rw [if_pos c] at hJ
      have ea : yd_a tk E i (i + 1) = fo_dep tk E i + 1 := by
        unfold yd_a
        rw [if_pos c, fo_dps, if_pos ⟨c, (hw i (Nat.zero_le _) hi).1⟩]
        rfl
      rw [ea]
      refine pk_le (fo_dep tk E i + 1) (fo_dm tk E i) (fun q => ?_) (fun q => ?_) rfl rfl (by unfold fo_dep; omega)
      · rw [if_pos q] at hJ
        exact nm_r (nI_1 i) hJ
      · rw [if_neg (by omega)] at hJ
        exact nm_r (nI_1 i) hJ
    · rw [if_neg c] at hJ
      have ea : yd_a tk E i (i + 1) = 0 := if_neg c
      rw [ea]
      exact br_t (nI_le (Nat.zero_le _) (by omega)) (nm_r (nI_1 i) hJ)
  | succ d ih =>
    intro p hp
    have p18 := h18 p
    have ih1 := ih (p + 1) (by omega)
    refine br_f (nI_nlt (by omega) (by omega)) ⟨vp_in_nI (by omega) (by decide), ?_⟩
    rw [xa_cl (by omega : p < 2 ^ 31), xa_cl (by omega : i < 2 ^ 31)]
    have noc : ¬ (fo_b (tk i) ∧ fo_b (tk p) ∧ i < E p) → yd_a tk E i (p + 1) = yd_a tk E i p := by
      intro z
      unfold yd_a
      by_cases c : fo_b (tk i)
      · rw [if_pos c, if_pos c, fo_dps, if_neg (fun y => z ⟨c, y⟩)]; rfl
      · rw [if_neg c, if_neg c]
    refine ys_bi p18 (fun b => ?_) (fun b => ?_)
    · refine br_f (by decide) ⟨vp_in_nI (by omega) (by decide), ?_⟩
      refine ys_bi i18 (fun b2 => ?_) (fun b2 => ?_)
      · refine br_f (by decide) ⟨vp_in_nI (by omega) (by decide), ?_⟩
        have pe := (hw p (Nat.zero_le _) (by omega)).2.1
        refine pk_le (E p) i (fun q => ?_) (fun q => ?_) (by rw [nI_clamp (by omega)]; exact hE p (by omega))
        · rw [noc (fun z => by have := z.2.2; omega)] at ih1
          exact nm_r (nI_1 p) ih1
        · have ea : yd_a tk E i (p + 1) = yd_a tk E i p + 1 := by
            unfold yd_a
            rw [if_pos b2, if_pos b2, fo_dps, if_pos ⟨b, q⟩]
          rw [ea] at ih1
          exact nm_r (nI_1 _) (nm_r (nI_1 p) ih1)
      · rw [noc (fun z => b2 z.1)] at ih1
        exact br_t rfl (nm_r (nI_1 p) ih1)
    · rw [noc (fun z => b z.2.1)] at ih1
      exact br_t rfl (nm_r (nI_1 p) ih1)
theorem yd_14 {post : Int32 → SY → Prop} (hn : n ≤ 12) (h18 : ∀ i, tk i ≤ 18) (hw : fo_wf tk n E 0) (hE : ∀ i, i < n → en i = nI (E i)) (h4 : fo_nb tk n ≤ 4)
    (hp : post (nI (fo_dm tk E n)) (nI n, nx, mq, xa_r tk, en, bn, fi, bo, sk)) : ∀ d i, i + d = n → wY_depth_14 post (nI n) nx mq (xa_r tk) en bn fi bo sk (d + 1) (nI (fo_dm tk E i)) (nI i) := by
  have dmk : ∀ j, j ≤ n → fo_dm tk E j ≤ 100 := by
    intro j
    induction j with
    | zero => intro _; exact Nat.zero_le _
    | succ j ih =>
      intro hj
      have a := ih (by omega)
      rw [fo_dms]
      by_cases c : fo_b (tk j)
      · have d3 := fo_d5 (E := E) h4 (by omega : j < n) c
        rw [if_pos c]
        by_cases c2 : fo_dep tk E j + 1 ≤ fo_dm tk E j
        · rw [if_pos c2]; omega
        · rw [if_neg c2]; omega
      · rw [if_neg c]; omega
  intro d
  induction d with
  | zero =>
    intro i hi
    have e : i = n := by omega
    subst e
    exact br_t (nI_le (Nat.le_refl _) (by omega)) hp
  | succ d ih =>
    intro i hi
    refine br_f (nI_ge (by omega) (by omega)) ⟨i + 2, ?_⟩
    have key := yd_27 (post := post) (J := wY_depth_14 post (nI n) nx mq (xa_r tk) en bn fi bo sk (d + 1)) (i := i) (nx := nx) (mq := mq) (bn := bn) (fi := fi) (bo := bo) (sk := sk) (by omega) hn h18 hw hE (dmk i (by omega)) (ih (i + 1) (by omega)) (i + 1) 0 (by omega)
    have e0 : yd_a tk E i 0 = 0 := by
      unfold yd_a
      by_cases c : fo_b (tk i)
      · rw [if_pos c]; rfl
      · rw [if_neg c]
    rw [e0] at key
    exact key
theorem yd_w {post : Int32 → SY → Prop} (hn : n ≤ 12) (h18 : ∀ i, tk i ≤ 18)
    (hbad : ∀ en bn, (¬ ∃ E', fo_Sd tk n E') → post (-3) (nI n, nx, mq, xa_r tk, en, bn, fi, bo, sk)) (hgood : ∀ E en bn, fo_Sd tk n E → post (nI (fo_dm tk E n)) (nI n, nx, mq, xa_r tk, en, bn, fi, bo, sk)) : wpY_depth post (nI n, nx, mq, xa_r tk, en, bn, fi, bo, sk) := by
  unfold wpY_depth
  dsimp only
  refine yo_w hn h18 (fun en bn hno => ?_) (fun E en bn sd ok => ?_)
  · exact br_t rfl (hbad _ _ hno)
  · refine br_f (by decide) ⟨n + 1, ?_⟩
    exact yd_14 hn h18 sd.2.1 ok.1 sd.2.2.2.2.2 (hgood E _ _ sd) n 0 (by omega)
end
end
section
/-! the reference: stepsInto, value -/
def rp_w (x : Int32) : Prop := ∀ i, 6 ≤ i → i < 32 → bt x i = false
theorem rp_0 {a : Nat → Int32} {p : Nat} (h : rp_w (a p)) : rp_R (a p) (xa_b a p) := by
  intro i hi
  by_cases c : i < 6
  · rw [decide_eq_true c, Bool.true_and]; rfl
  · rw [decide_eq_false c, h i (by omega) hi]; rfl
theorem rp_63 : ∀ i, i < 32 → bt 63 i = decide (i < 6) := by decide +kernel
theorem rp_not {x : Int32} {i : Nat} (hi : i < 32) : bt (x ^^^ (-1)) i = !bt x i := by
  rw [b_xor, b_m1 i hi]
  cases bt x i <;> rfl
theorem rp_and {x y : Int32} {S T : Nat → Bool} (h : rp_R x S) (g : rp_R y T) : rp_R (x &&& y) (fun s => S s && T s) := by
  intro i hi
  rw [b_and, h i hi, g i hi]
  show _ = (decide (i < 6) && (S i && T i))
  cases decide (i < 6) <;> cases S i <;> cases T i <;> rfl
theorem rp_or {x y : Int32} {S T : Nat → Bool} (h : rp_R x S) (g : rp_R y T) : rp_R (x ||| y) (fun s => S s || T s) := by
  intro i hi
  rw [b_or, h i hi, g i hi]
  show _ = (decide (i < 6) && (S i || T i))
  cases decide (i < 6) <;> cases S i <;> cases T i <;> rfl
theorem rp_neg (x : Int32) : rp_R (63 &&& (x ^^^ (-1))) (fun s => !bt x s) := by
  intro i hi
  rw [b_and, rp_63 i hi, rp_not hi]
theorem rp_rw {x : Int32} {S : Nat → Bool} (h : rp_R x S) : rp_w x := by
  intro i h6 hi
  rw [h i hi, decide_eq_false (by omega)]; rfl
theorem rp_e {x : Int32} {S T : Nat → Bool} (h : rp_R x S) (g : rp_R x T) : ev_q S T := by
  have e : ∀ s, s < 6 → S s = T s := by
    intro s hs
    have a := (h s (by omega)).symm.trans (g s (by omega))
    rw [decide_eq_true hs, Bool.true_and, Bool.true_and] at a
    exact a
  exact ⟨fun s hs z => by rw [← e s hs]; exact z, fun s hs z => by rw [e s hs]; exact z⟩
theorem si_some {x y : Int32} {S : Nat → Bool} (hw : rp_w y) (h : rp_R x S) : y &&& x = 0 ↔ ¬ se_ex (fun j => bt y j && S j) = true := by
  constructor
  · intro z e
    rw [se_exI] at e
    obtain ⟨j, hj, e⟩ := e
    rw [Bool.and_eq_true] at e
    have a := b_and y x j
    rw [z, b_0, h j (by omega), e.1, e.2, decide_eq_true hj] at a
    exact absurd a (by decide)
  · intro z
    apply b_ext
    intro i hi
    rw [b_and, b_0]
    by_cases c : i < 6
    · cases q : bt y i
      · rfl
      · rw [Bool.true_and, h i hi, decide_eq_true c, Bool.true_and]
        cases q2 : S i
        · rfl
        · exact absurd (se_exI.2 ⟨i, c, by show (bt y i && S i) = true; rw [q, q2]; rfl⟩) z
    · rw [hw i (by omega) hi, Bool.false_and]
theorem si_all {x y : Int32} {S : Nat → Bool} (hw : rp_w y) (h : rp_R x S) : y &&& (x ^^^ (-1)) = 0 ↔ se_al (fun j => !bt y j || S j) = true := by
  constructor
  · intro z
    rw [se_alI]
    intro j hj
    have a := b_and y (x ^^^ (-1)) j
    rw [z, b_0, rp_not (by omega), h j (by omega), decide_eq_true hj, Bool.true_and] at a
    show (!bt y j || S j) = true
    revert a
    cases bt y j <;> cases S j <;> simp
  · intro z
    rw [se_alI] at z
    apply b_ext
    intro i hi
    rw [b_and, b_0, rp_not hi]
    by_cases c : i < 6
    · have a : (!bt y i || S i) = true := z i c
      rw [h i hi, decide_eq_true c, Bool.true_and]
      revert a
      cases bt y i <;> cases S i <;> simp
    · rw [hw i (by omega) hi, Bool.false_and]
section
variable {n : Nat} {tk E : Nat → Nat} {nx mq en bn fi bo sk : Nat → Int32}
theorem si_55 {post : Int32 → Prop} {J : Int32 → Int32 → Prop} {T : Nat → Bool} {j : Nat} {x1 x2 x z : Int32} (hj : j < 6) (hx : ∀ i, i < 32 → bt x i = (decide (i < j) && T i)) (hz : (z = 0 ∧ T j = false) ∨ (¬ z = 0 ∧ T j = true))
    (hJ : ∀ x, (∀ i, i < 32 → bt x i = (decide (i < j + 1) && T i)) → J x (nI (j + 1))) : wY_stepsInto_55 post J x1 x2 x (nI j) z (nI n) nx mq (xa_r tk) en bn fi bo sk := by
  unfold wY_stepsInto_55
  have lt : ∀ i, i ≠ j → decide (i < j) = decide (i < j + 1) := by
    intro i q
    by_cases q2 : i < j
    · rw [decide_eq_true q2, decide_eq_true (by omega : i < j + 1)]
    · rw [decide_eq_false q2, decide_eq_false (by omega : ¬ i < j + 1)]
  rcases hz with ⟨hz, ht⟩ | ⟨hz, ht⟩
  · refine br_t hz (nm_r (nI_1 j) (hJ x (fun i hi => ?_)))
    rw [hx i hi]
    by_cases q : i = j
    · subst q; rw [ht, Bool.and_false, Bool.and_false]
    · rw [lt i q]
  · refine br_f hz (nm_e (nm_r (nI_1 j) (hJ _ (fun i hi => ?_))))
    rw [b_or, hx i hi, rp_s (by omega) hi]
    by_cases q : i = j
    · subst q
      rw [ht, decide_eq_true rfl, decide_eq_true (by omega : i < i + 1), Bool.or_true]; rfl
    · rw [decide_eq_false q, Bool.or_false, lt i q]
theorem si_0 {post : Int32 → Prop} {S : Nat → Bool} {x1 : Int32} (hw : ∀ s, s < 6 → rp_w (nx s)) (h : rp_R x1 S) (hp : ∀ r, rp_R r (fun s => se_ex (fun j => xa_b nx s j && S j)) → post r) :
    ∀ d j, j + d = 6 → ∀ x, (∀ i, i < 32 → bt x i = (decide (i < j) && se_ex (fun t => xa_b nx i t && S t))) → wY_stepsInto_5 post x1 0 (nI n) nx mq (xa_r tk) en bn fi bo sk (d + 1) x (nI j) := by
  intro d
  induction d with
  | zero =>
    intro j hj x hx
    have e : j = 6 := by omega
    subst e
    exact br_t (nI_le (a := 6) (by omega) (by omega)) (hp x hx)
  | succ d ih =>
    intro j hj x hx
    have hj6 : j < 6 := by omega
    refine br_f (nI_ge (b := 6) (by omega) (by decide)) (br_t rfl ⟨vp_in_nI hj6 (by decide), ?_⟩)
    rw [nI_clamp (by omega), si_some (hw j hj6) h]
    by_cases c : se_ex (fun t => xa_b nx j t && S t) = true
    · refine br_f (fun z => z c) ?_
      exact si_55 (T := fun s => se_ex (fun t => xa_b nx s t && S t)) hj6 hx (Or.inr ⟨by decide, c⟩) (fun x' hx' => ih (j + 1) (by omega) x' hx')
    · refine br_t c ?_
      refine si_55 (T := fun s => se_ex (fun t => xa_b nx s t && S t)) hj6 hx (Or.inl ⟨rfl, ?_⟩) (fun x' hx' => ih (j + 1) (by omega) x' hx')
      show se_ex (fun t => xa_b nx j t && S t) = false
      cases z : se_ex (fun t => xa_b nx j t && S t)
      · rfl
      · exact absurd z c
theorem si_1 {post : Int32 → Prop} {S : Nat → Bool} {x1 : Int32} (hw : ∀ s, s < 6 → rp_w (nx s)) (h : rp_R x1 S) (hp : ∀ r, rp_R r (fun s => se_al (fun j => !xa_b nx s j || S j)) → post r) :
    ∀ d j, j + d = 6 → ∀ x, (∀ i, i < 32 → bt x i = (decide (i < j) && se_al (fun t => !xa_b nx i t || S t))) → wY_stepsInto_5 post x1 1 (nI n) nx mq (xa_r tk) en bn fi bo sk (d + 1) x (nI j) := by
  intro d
  induction d with
  | zero =>
    intro j hj x hx
    have e : j = 6 := by omega
    subst e
    exact br_t (nI_le (a := 6) (by omega) (by omega)) (hp x hx)
  | succ d ih =>
    intro j hj x hx
    have hj6 : j < 6 := by omega
    refine br_f (nI_ge (b := 6) (by omega) (by decide)) (br_f (by decide) ⟨vp_in_nI hj6 (by decide), ?_⟩)
    rw [nI_clamp (by omega), si_all (hw j hj6) h]
    by_cases c : se_al (fun t => !xa_b nx j t || S t) = true
    · refine br_t c ?_
      exact si_55 (T := fun s => se_al (fun t => !xa_b nx s t || S t)) hj6 hx (Or.inr ⟨by decide, c⟩) (fun x' hx' => ih (j + 1) (by omega) x' hx')
    · refine br_f c ?_
      refine si_55 (T := fun s => se_al (fun t => !xa_b nx s t || S t)) hj6 hx (Or.inl ⟨rfl, ?_⟩) (fun x' hx' => ih (j + 1) (by omega) x' hx')
      show se_al (fun t => !xa_b nx j t || S t) = false
      cases z : se_al (fun t => !xa_b nx j t || S t)
      · rfl
      · exact absurd z c
theorem si_w0 {post : Int32 → Prop} {S : Nat → Bool} {x1 : Int32} (hw : ∀ s, s < 6 → rp_w (nx s)) (h : rp_R x1 S) (hp : ∀ r, rp_R r (fun s => se_ex (fun j => xa_b nx s j && S j)) → post r) : wpY_stepsInto post (nI n, nx, mq, xa_r tk, en, bn, fi, bo, sk) x1 0 := by
  unfold wpY_stepsInto
  exact ⟨7, si_0 hw h hp 6 0 (by omega) 0 (fun i hi => by rw [b_0, decide_eq_false (by omega : ¬ i < 0)]; rfl)⟩
theorem si_w1 {post : Int32 → Prop} {S : Nat → Bool} {x1 : Int32} (hw : ∀ s, s < 6 → rp_w (nx s)) (h : rp_R x1 S) (hp : ∀ r, rp_R r (fun s => se_al (fun j => !xa_b nx s j || S j)) → post r) : wpY_stepsInto post (nI n, nx, mq, xa_r tk, en, bn, fi, bo, sk) x1 1 := by
  unfold wpY_stepsInto
  exact ⟨7, si_1 hw h hp 6 0 (by omega) 0 (fun i hi => by rw [b_0, decide_eq_false (by omega : ¬ i < 0)]; rfl)⟩
/-! value -/
theorem yv_h (h : fo_wf tk n E 0) {i : Nat} (hi : i < n) : fo_ar (tk i) ≤ ch_h E n (i + 1) ∧ ch_h E n (i + 1) - fo_ar (tk i) + 1 = ch_h E n i ∧ 1 ≤ ch_h E n i := by
  have e := ch_eq h hi
  obtain ⟨p1, p2, p3, p4, p5⟩ := h i (Nat.zero_le _) hi
  rcases fo_ar3 (tk i) with a | a | a
  · rw [p3 a] at e
    omega
  · obtain ⟨a1, a2⟩ := p4 a
    have e1 := ch_eq h a1
    rw [a2] at e
    omega
  · obtain ⟨a1, a2, a3⟩ := p5 a
    have e1 := ch_eq h a1
    have e2 := ch_eq h a2
    rw [a3] at e
    omega
theorem yv_209 {post : Int32 → SY → Prop} {J : Int32 → Int32 → (Nat → Int32) → (Nat → Int32) → (Nat → Int32) → (Nat → Int32) → (Nat → Int32) → (Nat → Int32) → (Nat → Int32) → (Nat → Int32) → Prop} {i : Nat} {x6 : Int32}
    (h : fo_wf tk n E 0) (hn : n ≤ 12) (h18 : ∀ i, tk i ≤ 18) (hi : i < n) (hJ : J (nI (ch_h E n i)) (nI i + (-1)) nx mq (xa_r tk) en bn fi bo (upd sk (ch_h E n i - 1) x6)) : wY_value_209 post J (nI (ch_h E n (i + 1))) (nI i) (nI (tk i)) x6 (nI n) nx mq (xa_r tk) en bn fi bo sk := by
  obtain ⟨h1, h2, h3⟩ := yv_h h hi
  have hb := ch_b h n i (by omega)
  unfold wY_value_209
  refine ys_ar (h18 i) (nm_r (e' := nI (ch_h E n i)) (by rw [pk_sub h1, nI_1, h2]) ?_)
  refine pk_le 1 (ch_h E n i) (fun c => ?_) (fun c => by omega)
  rw [show nI (ch_h E n i) - 1 = nI (ch_h E n i - 1) from pk_sub (b := 1) h3]
  exact ⟨vp_in_nI (by omega) (by decide), nm_r (xa_upc (by omega)) (nm_e hJ)⟩
theorem yv_55 {post : Int32 → SY → Prop} {J : Int32 → Int32 → (Nat → Int32) → (Nat → Int32) → (Nat → Int32) → (Nat → Int32) → (Nat → Int32) → (Nat → Int32) → (Nat → Int32) → (Nat → Int32) → Prop} {i : Nat} {a b : Int32}
    (H : me_H tk E n) (h18 : ∀ i, tk i ≤ 18) (hi : i < n) (hnx : ∀ s, s < 6 → rp_w (nx s)) (hmq : ∀ t, t < 3 → rp_w (mq t)) (hfi : ∀ p, p < n → rp_w (fi p)) (hbn : ∀ i, i < n → 16 ≤ tk i → bn i = nI (fo_B tk E i))
    (ha : fo_ar (tk i) ≠ 0 → rp_R a (ev_m tk E n (xa_b nx) (xa_b mq) (xa_b fi) (i + 1))) (hb : fo_ar (tk i) = 2 → rp_R b (ev_m tk E n (xa_b nx) (xa_b mq) (xa_b fi) (E (i + 1))))
    (hJ : ∀ x6 bo', rp_R x6 (ev_m tk E n (xa_b nx) (xa_b mq) (xa_b fi) i) → (fo_b (tk i) → bo' = upd bo i a) → (¬ fo_b (tk i) → bo' = bo) → J (nI (ch_h E n i)) (nI i + (-1)) nx mq (xa_r tk) en bn fi bo' (upd sk (ch_h E n i - 1) x6)) :
    wY_value_55 post J (nI (ch_h E n (i + 1))) (nI i) (nI (tk i)) a b (nI n) nx mq (xa_r tk) en bn fi bo sk := by
  obtain ⟨h, hbd, hnb, h12⟩ := H
  have i18 := h18 i
  have go : ∀ x6, ¬ fo_b (tk i) → rp_R x6 (ev_m tk E n (xa_b nx) (xa_b mq) (xa_b fi) i) → wY_value_209 post J (nI (ch_h E n (i + 1))) (nI i) (nI (tk i)) x6 (nI n) nx mq (xa_r tk) en bn fi bo sk :=
    fun x6 nb hr => yv_209 h h12 h18 hi (hJ x6 bo hr (fun z => absurd z nb) (fun _ => rfl))
  unfold wY_value_55
  refine pk_le 3 (tk i) (fun c3 => ?_) (fun c3 => ?_)
  · refine pk_le 6 (tk i) (fun c6 => ?_) (fun c6 => ?_)
    · refine pk_le 8 (tk i) (fun c8 => ?_) (fun c8 => ?_)
      · refine pk_le 10 (tk i) (fun c10 => ?_) (fun c10 => ?_)
        · refine pk_le 16 (tk i) (fun c16 => ?_) (fun c16 => ?_)
          · have he := hbd i hi c16
            have bl := he.1
            refine ⟨vp_in_nI (by omega) (by decide), ?_⟩
            rw [nI_clamp (by omega : i < 2 ^ 31), hbn i hi c16]
            refine br_t (nI_pos' (by omega)) ⟨vp_in_nI (by omega) (by decide), ?_⟩
            unfold wY_value_206
            refine ⟨vp_in_nI (by omega) (by decide), nm_r (xa_cla (by omega)) ?_⟩
            refine go _ (by omega) ?_
            rw [ev_8 h hi c16]
            exact rp_0 (hfi _ (by omega))
          · have nb : fo_b (tk i) := ⟨c10, c16⟩
            refine ⟨vp_in_nI (by omega) (by decide), nm_r (xa_upc (by omega)) ⟨vp_in_nI (by omega) (by decide), nm_r (xa_cla (by omega)) ?_⟩⟩
            refine yv_209 h h12 h18 hi (hJ _ _ ?_ (fun _ => rfl) (fun z => absurd nb z))
            rw [ev_7 h hi nb]
            exact rp_0 (hfi _ hi)
        · have ar : fo_ar (tk i) ≠ 0 := by rw [fo_ar1 c8 (by omega)]; decide
          refine pk_eq (tk i) 9 (fun t => ?_) (fun t => ?_)
          · unfold wY_value_150
            refine si_w1 hnx (ha ar) (fun r hr => ?_)
            refine go r (by omega) ?_
            rw [ev_6 h hi t]
            exact hr
          · unfold wY_value_150
            refine si_w0 hnx (ha ar) (fun r hr => ?_)
            refine go r (by omega) ?_
            rw [ev_5 h hi (by omega)]
            exact hr
      · have ar : fo_ar (tk i) = 2 := fo_ar2 (by omega)
        refine pk_eq (tk i) 6 (fun t => ?_) (fun t => ?_)
        · unfold wY_value_125
          refine go _ (by omega) ?_
          rw [ev_3 h hi t]
          exact rp_and (ha (by omega)) (hb ar)
        · unfold wY_value_125
          refine go _ (by omega) ?_
          rw [ev_4 h hi (by omega)]
          exact rp_or (ha (by omega)) (hb ar)
    · rw [show nI (tk i) - 3 = nI (tk i - 3) from pk_sub (b := 3) c3]
      refine ⟨vp_in_nI (by omega) (by decide), nm_r (e' := 63 &&& ((mq (tk i - 3)) ^^^ (-1))) (by rw [nI_clamp (by omega)]) ?_⟩
      refine go _ (by omega) ?_
      rw [ev_2 h hi c3 c6]
      exact rp_neg _
  · refine ⟨vp_in_nI (by omega) (by decide), nm_r (xa_cla (by omega)) ?_⟩
    refine go _ (by omega) ?_
    rw [ev_1 h hi c3]
    exact rp_0 (hmq _ c3)
theorem yv_9 {post : Int32 → SY → Prop} (H : me_H tk E n) (h0 : 0 < n) (hE0 : E 0 = n) (h18 : ∀ i, tk i ≤ 18) (hnx : ∀ s, s < 6 → rp_w (nx s)) (hmq : ∀ t, t < 3 → rp_w (mq t)) (hfi : ∀ p, p < n → rp_w (fi p)) (hbn : ∀ i, i < n → 16 ≤ tk i → bn i = nI (fo_B tk E i))
    (hp : ∀ bo sk x, (∀ p, p < n → fo_b (tk p) → rp_R (bo p) (ev_m tk E n (xa_b nx) (xa_b mq) (xa_b fi) (p + 1))) → rp_R x (ev_m tk E n (xa_b nx) (xa_b mq) (xa_b fi) 0) → post x (nI n, nx, mq, xa_r tk, en, bn, fi, bo, sk)) :
    ∀ k, k ≤ n → ∀ N, k < N → ∀ bo sk, (∀ j, ch_on E n k j → rp_R (sk (ch_h E n j - 1)) (ev_m tk E n (xa_b nx) (xa_b mq) (xa_b fi) j)) →
    (∀ p, k ≤ p → p < n → fo_b (tk p) → rp_R (bo p) (ev_m tk E n (xa_b nx) (xa_b mq) (xa_b fi) (p + 1))) → wY_value_9 post (nI n) N (nI (ch_h E n k)) (nI k + (-1)) nx mq (xa_r tk) en bn fi bo sk := by
  have H0 := H
  obtain ⟨h, hbd, hnb, h12⟩ := H
  intro k
  induction k with
  | zero =>
    intro _ N hN bo sk hs hb
    obtain ⟨N, rfl⟩ : ∃ M, N = M + 1 := ⟨N - 1, by omega⟩
    refine br_t xa_m0 (hp _ _ _ (fun p => hb p (Nat.zero_le _)) ?_)
    have := hs 0 ⟨Nat.le_refl _, h0, fun p _ z => absurd z (Nat.not_lt_zero _)⟩
    rw [ch_eq h h0, hE0, ch_n (Nat.le_refl _)] at this
    exact this
  | succ i ih =>
    intro hk N hN bo sk hs hb
    obtain ⟨N, rfl⟩ : ∃ M, N = M + 1 := ⟨N - 1, by omega⟩
    have hi : i < n := by omega
    have hh := yv_h h hi
    have hbnd := ch_b h n (i + 1) (by omega)
    have c1 : fo_ar (tk i) ≠ 0 → ch_on E n (i + 1) (i + 1) := fun ar => ⟨Nat.le_refl _, (fo_e5 h hi ar).1, fun p a b => by omega⟩
    have c2 : fo_ar (tk i) = 2 → ch_on E n (i + 1) (E (i + 1)) := by
      intro ar
      have q := fo_e6 h hi ar
      exact ⟨by omega, q.2.2.1, fun p a b => fo_lm h q.1 a b⟩
    have key : wY_value_55 post (wY_value_9 post (nI n) N) (nI (ch_h E n (i + 1))) (nI i) (nI (tk i)) (if ch_h E n (i + 1) ≤ 0 then 0 else sk (ch_h E n (i + 1) - 1)) (if ch_h E n (i + 1) ≤ 1 then 0 else sk (ch_h E n (i + 1) - 2)) (nI n) nx mq (xa_r tk) en bn fi bo sk := by
      refine yv_55 H0 h18 hi hnx hmq hfi hbn (fun ar => ?_) (fun ar => ?_) (fun x6 bo' hr hb1 hb2 => ?_)
      · rw [if_neg (by omega)]
        exact hs _ (c1 ar)
      · have q := fo_e6 h hi ar
        have e1 := ch_eq h q.1
        have := hs _ (c2 ar)
        rw [if_neg (by omega), show ch_h E n (i + 1) - 2 = ch_h E n (E (i + 1)) - 1 by omega]
        exact this
      · refine ih (by omega) N (by omega) _ _ (fun j hj => ?_) (fun p h1 h2 h3 => ?_)
        · by_cases c : j = i
          · subst c; rw [pk_us]; exact hr
          · have hj1 := hj.1
            have lt := (ch_m h n i j (by omega) hj).2 (by omega)
            have pos := ch_eq h hj.2.1
            rw [pk_un (by omega)]
            exact hs j ⟨by omega, hj.2.1, fun p a b => hj.2.2 p (by omega) b⟩
        · by_cases c : p = i
          · subst c
            have ar : fo_ar (tk p) ≠ 0 := by rw [fo_ar1 (by omega) h3.2]; decide
            rw [hb1 h3, pk_us, if_neg (by omega)]
            exact hs _ (c1 ar)
          · by_cases c3 : fo_b (tk i)
            · rw [hb1 c3, pk_un c]; exact hb p (by omega) h2 h3
            · rw [hb2 c3]; exact hb p (by omega) h2 h3
    rw [pk_m1]
    refine br_f (nI_pos (by omega)) ⟨vp_in_nI (by omega) (by decide), nm_r (xa_cl (by omega)) ?_⟩
    refine pk_le (ch_h E n (i + 1)) 0 (fun q => ?_) (fun q => ?_)
    · rw [if_pos q, if_pos (by omega)] at key
      unfold wY_value_36
      exact br_t (nI_le (a := ch_h E n (i + 1)) (b := 1) (by omega) (by decide)) key
    · rw [if_neg (by omega)] at key
      rw [show nI (ch_h E n (i + 1)) - 1 = nI (ch_h E n (i + 1) - 1) from pk_sub (b := 1) (by omega), nI_clamp (by omega)]
      refine ⟨vp_in_nI (by omega) (by decide), ?_⟩
      unfold wY_value_36
      refine pk_le (ch_h E n (i + 1)) 1 (fun q2 => ?_) (fun q2 => ?_)
      · rw [if_pos q2] at key
        exact key
      · rw [if_neg (by omega)] at key
        rw [show nI (ch_h E n (i + 1)) - 2 = nI (ch_h E n (i + 1) - 2) from pk_sub (b := 2) (by omega), nI_clamp (by omega)]
        exact ⟨vp_in_nI (by omega) (by decide), key⟩
theorem yv_w {post : Int32 → SY → Prop} (H : me_H tk E n) (h0 : 0 < n) (hE0 : E 0 = n) (h18 : ∀ i, tk i ≤ 18) (hnx : ∀ s, s < 6 → rp_w (nx s)) (hmq : ∀ t, t < 3 → rp_w (mq t)) (hfi : ∀ p, p < n → rp_w (fi p)) (hbn : ∀ i, i < n → 16 ≤ tk i → bn i = nI (fo_B tk E i))
    (hp : ∀ bo sk x, (∀ p, p < n → fo_b (tk p) → rp_R (bo p) (ev_m tk E n (xa_b nx) (xa_b mq) (xa_b fi) (p + 1))) → rp_R x (ev_m tk E n (xa_b nx) (xa_b mq) (xa_b fi) 0) → post x (nI n, nx, mq, xa_r tk, en, bn, fi, bo, sk)) : wpY_value post (nI n, nx, mq, xa_r tk, en, bn, fi, bo, sk) := by
  unfold wpY_value
  refine nm_r (xa_s1 _) ⟨n + 1, ?_⟩
  have := yv_9 H h0 hE0 h18 hnx hmq hfi hbn hp n (Nat.le_refl _) (n + 1) (by omega) bo sk (fun j hj => by have := hj.1; have := hj.2.1; omega) (fun p a b => by omega)
  rw [ch_n (Nat.le_refl _)] at this
  exact this
end
end
section
/-! the reference: lastOpen, find, set, holds -/
section
variable {n : Nat} {tk E : Nat → Nat} {nx mq en bn fi bo sk : Nat → Int32}
theorem yl_7 {post : Int32 → Prop} (hn : n ≤ 12) (h18 : ∀ i, tk i ≤ 18) (h0 : (∀ p, p < n → fo_b (tk p) → bo p = fi p) → post (-1))
    (h1 : ∀ o, o < n → fo_b (tk o) → ¬ bo o = fi o → (∀ p, o < p → p < n → fo_b (tk p) → bo p = fi p) → post (nI o)) :
    ∀ k, k ≤ n → (∀ p, k ≤ p → p < n → fo_b (tk p) → bo p = fi p) → ∀ N, k < N → wY_lastOpen_7 post (nI n) nx mq (xa_r tk) en bn fi bo sk N (nI k + (-1)) := by
  intro k
  induction k with
  | zero =>
    intro _ hs N hN
    obtain ⟨N, rfl⟩ : ∃ M, N = M + 1 := ⟨N - 1, by omega⟩
    exact br_t xa_m0 (h0 (fun p => hs p (Nat.zero_le _)))
  | succ k ih =>
    intro hk hs N hN
    obtain ⟨N, rfl⟩ : ∃ M, N = M + 1 := ⟨N - 1, by omega⟩
    rw [pk_m1]
    refine br_f (nI_pos (by omega)) ⟨vp_in_nI (by omega) (by decide), ?_⟩
    rw [xa_cl (by omega)]
    refine ys_bi (h18 k) (fun b => ?_) (fun b => ?_)
    · refine br_f (by decide) ⟨vp_in_nI (by omega) (by decide), vp_in_nI (by omega) (by decide), ?_⟩
      rw [nI_clamp (by omega)]
      by_cases c : bo k = fi k
      · refine br_t c (nm_e (ih (by omega) (fun p a d e => ?_) N (by omega)))
        by_cases q : p = k
        · subst q; exact c
        · exact hs p (by omega) d e
      · exact br_f c (h1 k (by omega) b c (fun p a d e => hs p (by omega) d e))
    · refine br_t rfl (nm_e (ih (by omega) (fun p a d e => ?_) N (by omega)))
      by_cases q : p = k
      · subst q; exact absurd e b
      · exact hs p (by omega) d e
theorem yl_w {post : Int32 → Prop} (hn : n ≤ 12) (h18 : ∀ i, tk i ≤ 18) (h0 : (∀ p, p < n → fo_b (tk p) → bo p = fi p) → post (-1))
    (h1 : ∀ o, o < n → fo_b (tk o) → ¬ bo o = fi o → (∀ p, o < p → p < n → fo_b (tk p) → bo p = fi p) → post (nI o)) : wpY_lastOpen post (nI n, nx, mq, xa_r tk, en, bn, fi, bo, sk) := by
  unfold wpY_lastOpen
  refine nm_r (xa_s1 _) ⟨n + 1, ?_⟩
  exact yl_7 hn h18 h0 h1 n (Nat.le_refl _) (fun p a b => by omega) (n + 1) (by omega)
def yi_1 (tk : Nat → Nat) (p : Nat) : Int32 := if 13 ≤ tk p then 63 else 0
theorem yi_1w (p : Nat) : rp_w (yi_1 tk p) := by
  intro i h6 hi
  unfold yi_1
  by_cases c : 13 ≤ tk p
  · rw [if_pos c, rp_63 i hi, decide_eq_false (by omega)]
  · rw [if_neg c, b_0]
theorem yi_1a {p : Nat} (c : tk p < 13) : ms_le (fun s => bt (yi_1 tk p) s) ms_e := by
  intro s hs z
  have e : yi_1 tk p = 0 := if_neg (by omega)
  have z' : bt (yi_1 tk p) s = true := z
  rw [e, b_0] at z'
  exact absurd z' (by decide)
theorem yi_1b {p : Nat} (c : 13 ≤ tk p) : ms_le ms_f (fun s => bt (yi_1 tk p) s) := by
  intro s hs z
  have e : yi_1 tk p = 63 := if_pos c
  show bt (yi_1 tk p) s = true
  rw [e, rp_63 s (by omega), decide_eq_true hs]
theorem yi_fw {post : Int32 → Prop} {p : Nat} (hp12 : p < 12) (h18 : ∀ i, tk i ≤ 18) (hp : post (yi_1 tk p)) : wpY_first post (nI n, nx, mq, xa_r tk, en, bn, fi, bo, sk) (nI p) := by
  have p18 := h18 p
  unfold wpY_first
  refine ⟨vp_in_nI hp12 (by decide), ?_⟩
  refine pk_le 13 (tk p) (fun c => ?_) (fun c => ?_) rfl (xa_cl (by omega))
  · rw [show yi_1 tk p = 63 from if_pos c] at hp; exact hp
  · rw [show yi_1 tk p = 0 from if_neg (by omega)] at hp; exact hp
/-- the places from a on, up to p, at their first sets -/
def yi_f (tk : Nat → Nat) (fi : Nat → Int32) (a p : Nat) : Nat → Int32 := fun j => if a ≤ j ∧ j < p then yi_1 tk j else fi j
theorem yi_fs {a p : Nat} (h : a ≤ p) : upd (yi_f tk fi a p) p (yi_1 tk p) = yi_f tk fi a (p + 1) := by
  funext j
  unfold yi_f
  by_cases c : j = p
  · subst c; rw [pk_us, if_pos ⟨h, by omega⟩]
  · rw [pk_un c]
    by_cases d : a ≤ j ∧ j < p
    · rw [if_pos d, if_pos ⟨d.1, by omega⟩]
    · rw [if_neg d, if_neg (by omega)]
theorem yi_f0 {a : Nat} : yi_f tk fi a a = fi := by
  funext j
  exact if_neg (by omega)
/-- the state of the rounds -/
def yi_J (tk E : Nat → Nat) (n : Nat) (nx mq fi : Nat → Int32) (r : Nat) : Prop := (∀ p, p < n → rp_w (fi p)) ∧ ev_I tk E n (xa_b nx) (xa_b mq) (xa_b fi) ∧ r ≤ ev_H tk (xa_b fi) n
def yi_B (tk E : Nat → Nat) (n : Nat) (nx mq fi bo : Nat → Int32) : Prop := ∀ p, p < n → fo_b (tk p) → rp_R (bo p) (ev_m tk E n (xa_b nx) (xa_b mq) (xa_b fi) (p + 1))
def yi_O (tk : Nat → Nat) (n : Nat) (fi bo : Nat → Int32) (x : Int32) : Prop :=
  (x = -1 ∧ ∀ p, p < n → fo_b (tk p) → bo p = fi p) ∨ (∃ o, o < n ∧ x = nI o ∧ fo_b (tk o) ∧ ¬ bo o = fi o ∧ ∀ p, o < p → p < n → fo_b (tk p) → bo p = fi p)
theorem yi_vo {K : Int32 → Int32 → SY → Prop} (H : me_H tk E n) (h0 : 0 < n) (hE0 : E 0 = n) (h18 : ∀ i, tk i ≤ 18) (hnx : ∀ s, s < 6 → rp_w (nx s)) (hmq : ∀ t, t < 3 → rp_w (mq t)) (hfi : ∀ p, p < n → rp_w (fi p)) (hbn : ∀ i, i < n → 16 ≤ tk i → bn i = nI (fo_B tk E i))
    (hp : ∀ bo sk x y, yi_B tk E n nx mq fi bo → rp_R x (ev_m tk E n (xa_b nx) (xa_b mq) (xa_b fi) 0) → yi_O tk n fi bo y → K x y (nI n, nx, mq, xa_r tk, en, bn, fi, bo, sk)) : wpY_value (fun x u => wpY_lastOpen (fun y => K x y u) u) (nI n, nx, mq, xa_r tk, en, bn, fi, bo, sk) := by
  refine yv_w H h0 hE0 h18 hnx hmq hfi hbn (fun bo sk x hb hx => ?_)
  exact yl_w H.2.2.2 h18 (fun z => hp bo sk x _ hb hx (Or.inl ⟨rfl, z⟩)) (fun o a b c d => hp bo sk x _ hb hx (Or.inr ⟨o, a, rfl, b, c, d⟩))
theorem yi_up (H : me_H tk E n) {r o : Nat} (hJ : yi_J tk E n nx mq fi r) (hB : yi_B tk E n nx mq fi bo) (ho : o < n) (hbo : fo_b (tk o)) (hop : ¬ bo o = fi o) (hset : ∀ p, o < p → p < n → fo_b (tk p) → bo p = fi p) :
    yi_J tk E n nx mq (yi_f tk (upd fi o (bo o)) (o + 1) (E o)) (r + 1) := by
  obtain ⟨hw, hI, hr⟩ := hJ
  have hEo := (H.1 o (Nat.zero_le _) ho).1
  have eo : yi_f tk (upd fi o (bo o)) (o + 1) (E o) o = bo o := by
    unfold yi_f
    rw [if_neg (by omega), pk_us]
  have ein : ∀ p, o < p → p < E o → yi_f tk (upd fi o (bo o)) (o + 1) (E o) p = yi_1 tk p := fun p a b => if_pos ⟨a, b⟩
  have eout : ∀ p, p < o ∨ E o ≤ p → yi_f tk (upd fi o (bo o)) (o + 1) (E o) p = fi p := by
    intro p a
    unfold yi_f
    rw [if_neg (by omega), pk_un (by omega)]
  have qb := hB o ho hbo
  have qo : ev_q (xa_b (yi_f tk (upd fi o (bo o)) (o + 1) (E o)) o) (ev_m tk E n (xa_b nx) (xa_b mq) (xa_b fi) (o + 1)) := by
    have : rp_R (bo o) (fun s => bt (bo o) s) := rp_0 (a := bo) (rp_rw qb)
    have e2 : xa_b (yi_f tk (upd fi o (bo o)) (o + 1) (E o)) o = fun s => bt (bo o) s := by
      unfold xa_b
      rw [eo]
    rw [e2]
    exact rp_e this qb
  have hs : ∀ p, p < n → p < o ∨ E o ≤ p → xa_b (yi_f tk (upd fi o (bo o)) (o + 1) (E o)) p = xa_b fi p := by
    intro p _ a
    unfold xa_b
    rw [eout p a]
  obtain ⟨u1, u2⟩ := ev_up H hI ho hbo (fun p a b c => by
      have q1 := hB p b c
      rw [hset p (by omega) b c] at q1
      exact rp_e q1 (rp_0 (hw p b))) qo (fun p a b => by
      unfold xa_b
      rw [ein p a b]
      exact ⟨yi_1a, yi_1b⟩) hs
  refine ⟨fun p hp => ?_, u1, ?_⟩
  · by_cases c : o < p ∧ p < E o
    · rw [ein p c.1 c.2]; exact yi_1w p
    · by_cases c2 : p = o
      · subst c2; rw [eo]; exact rp_rw qb
      · rw [eout p (by omega)]; exact hw p hp
  · refine Nat.le_trans (Nat.succ_le_succ hr) ?_
    refine ev_ri hI ho hbo rfl (ev_qt qo u2) (fun z => hop ?_) (fun p hp => hs p (by omega) (Or.inl hp))
    have a : rp_R (bo o) (xa_b fi o) := rp_q qb (ev_qt (ev_qs qo) z)
    exact rp_u a (rp_0 (hw o ho))
theorem yi_67 {post : Int32 → SY → Prop} {J : Int32 → Int32 → Int32 → Int32 → (Nat → Int32) → (Nat → Int32) → (Nat → Int32) → (Nat → Int32) → (Nat → Int32) → (Nat → Int32) → (Nat → Int32) → (Nat → Int32) → Prop} {o r : Nat} {f1 : Nat → Int32}
    (H : me_H tk E n) (h0 : 0 < n) (hE0 : E 0 = n) (h18 : ∀ i, tk i ≤ 18) (hnx : ∀ s, s < 6 → rp_w (nx s)) (hmq : ∀ t, t < 3 → rp_w (mq t)) (hok : yo_ok tk n E en bn) (ho : o < n) (hf : ∀ p, p < n → rp_w (yi_f tk f1 (o + 1) (E o) p))
    (hJ : ∀ bo sk x y, yi_B tk E n nx mq (yi_f tk f1 (o + 1) (E o)) bo → rp_R x (ev_m tk E n (xa_b nx) (xa_b mq) (xa_b (yi_f tk f1 (o + 1) (E o))) 0) → yi_O tk n (yi_f tk f1 (o + 1) (E o)) bo y → J x y (nI (r + 1)) (nI n) nx mq (xa_r tk) en bn (yi_f tk f1 (o + 1) (E o)) bo sk) :
    ∀ d p, p + d = E o → o < p → wY_find_67 post J (nI o) (nI r) (nI n) (d + 1) (nI p) nx mq (xa_r tk) en bn (yi_f tk f1 (o + 1) p) bo sk := by
  have hEo := (H.1 o (Nat.zero_le _) ho)
  have h12 := H.2.2.2
  have eE : en (nI o).toNatClampNeg = nI (E o) := by rw [nI_clamp (by omega)]; exact hok.1 o ho
  intro d
  induction d with
  | zero =>
    intro p hp hop
    have e : p = E o := by omega
    subst e
    refine And.intro (vp_in_nI (by omega) (by decide)) ?_
    refine br_t (by rw [eE]; exact nI_le (Nat.le_refl _) (by omega)) ?_
    refine yi_vo (K := fun x y u => _) H h0 hE0 h18 hnx hmq hf hok.2 (fun bo sk x y a b c => ?_)
    exact nm_r (nI_1 r) (hJ bo sk x y a b c)
  | succ d ih =>
    intro p hp hop
    have := hEo.2.1
    refine And.intro (vp_in_nI (by omega) (by decide)) ?_
    refine br_f (by rw [eE]; exact nI_ge (by omega) (by omega)) ?_
    refine yi_fw (by omega) h18 ⟨vp_in_nI (by omega) (by decide), nm_r (e' := yi_f tk f1 (o + 1) (p + 1)) ?_ (nm_r (nI_1 p) (ih (p + 1) (by omega) (by omega)))⟩
    rw [nI_clamp (by omega), yi_fs (by omega)]
theorem yi_39 {post : Int32 → SY → Prop} (H : me_H tk E n) (h0 : 0 < n) (hE0 : E 0 = n) (h18 : ∀ i, tk i ≤ 18) (hnx : ∀ s, s < 6 → rp_w (nx s)) (hmq : ∀ t, t < 3 → rp_w (mq t)) (hok : yo_ok tk n E en bn)
    (hp : ∀ fi bo sk x, rp_R x (xt_S tk E n nx mq) → post x (nI n, nx, mq, xa_r tk, en, bn, fi, bo, sk)) :
    ∀ N r, 2401 < r + N → ∀ fi bo sk x y, yi_J tk E n nx mq fi r → yi_B tk E n nx mq fi bo → rp_R x (ev_m tk E n (xa_b nx) (xa_b mq) (xa_b fi) 0) → yi_O tk n fi bo y → wY_find_39 post N x y (nI r) (nI n) nx mq (xa_r tk) en bn fi bo sk := by
  intro N
  induction N with
  | zero =>
    intro r hr fi bo sk x y hJ
    have := ev_H4 (V := xa_b fi) H.2.2.1
    have := hJ.2.2
    omega
  | succ N ih =>
    intro r hr fi bo sk x y hJ hB hx hO
    have r1 := ev_H4 (V := xa_b fi) H.2.2.1
    have r2 := hJ.2.2
    refine br_f (nI_ge (b := 2401) (by omega) (by decide)) ?_
    rcases hO with ⟨e, hs⟩ | ⟨o, ho, e, hbo, hop, hset⟩
    · subst e
      refine br_t (by decide) (hp _ _ _ x ?_)
      refine rp_q hx (ev_end H h0 hJ.2.1 (fun p a b => ?_))
      have q1 := hB p a b
      rw [hs p a b] at q1
      exact rp_e q1 (rp_0 (hJ.1 p a))
    · subst e
      have o12 : o < 12 := by have := H.2.2.2; omega
      have hEo := (H.1 o (Nat.zero_le _) ho)
      have hu := yi_up H hJ hB ho hbo hop hset
      refine br_f (nI_pos (by omega)) ⟨vp_in_nI o12 (by decide), vp_in_nI o12 (by decide), nm_r (e' := upd fi o (bo o)) (by rw [nI_clamp (by omega)]) (nm_r (nI_1 o) ⟨E o - (o + 1) + 1, ?_⟩)⟩
      have key := yi_67 (post := post) (J := wY_find_39 post N) (sk := sk) (bo := bo) (f1 := upd fi o (bo o)) (r := r) H h0 hE0 h18 hnx hmq hok ho hu.1 (fun bo sk x y a b c => ih (r + 1) (by omega) _ _ _ _ _ hu a b c) (E o - (o + 1)) (o + 1) (by omega) (by omega)
      rw [yi_f0] at key
      exact key
theorem yi_2 {post : Int32 → SY → Prop} (H : me_H tk E n) (h0 : 0 < n) (hE0 : E 0 = n) (h18 : ∀ i, tk i ≤ 18) (hnx : ∀ s, s < 6 → rp_w (nx s)) (hmq : ∀ t, t < 3 → rp_w (mq t)) (hok : yo_ok tk n E en bn)
    (hp : ∀ fi bo sk x, rp_R x (xt_S tk E n nx mq) → post x (nI n, nx, mq, xa_r tk, en, bn, fi, bo, sk)) :
    ∀ d p, p + d = n → wY_find_2 post (nI n) (d + 1) (nI p) nx mq (xa_r tk) en bn (yi_f tk fi 0 p) bo sk := by
  have h12 := H.2.2.2
  intro d
  induction d with
  | zero =>
    intro p hd
    have e : p = n := by omega
    subst e
    refine br_t (nI_le (Nat.le_refl _) (by omega)) ?_
    have ein : ∀ q, q < p → yi_f tk fi 0 p q = yi_1 tk q := fun q a => if_pos ⟨Nat.zero_le _, a⟩
    have hf : ∀ q, q < p → rp_w (yi_f tk fi 0 p q) := fun q a => by rw [ein q a]; exact yi_1w q
    refine yi_vo (K := fun x y u => _) H h0 hE0 h18 hnx hmq hf hok.2 (fun bo sk x y a b c => ?_)
    refine ⟨2402, yi_39 H h0 hE0 h18 hnx hmq hok hp 2402 0 (by omega) _ bo sk x y ⟨hf, ev_0 (fun q hq => ?_), Nat.zero_le _⟩ a b c⟩
    show (tk q < 13 → ms_le (fun s => bt (yi_f tk fi 0 p q) s) ms_e) ∧ (13 ≤ tk q → ms_le ms_f (fun s => bt (yi_f tk fi 0 p q) s))
    rw [ein q hq]
    exact ⟨yi_1a, yi_1b⟩
  | succ d ih =>
    intro p hd
    refine br_f (nI_ge (by omega) (by omega)) ?_
    refine yi_fw (by omega) h18 ⟨vp_in_nI (by omega) (by decide), nm_r (e' := yi_f tk fi 0 (p + 1)) ?_ (nm_r (nI_1 p) (ih (p + 1) (by omega)))⟩
    rw [nI_clamp (by omega), yi_fs (by omega)]
theorem yi_w {post : Int32 → SY → Prop} (H : me_H tk E n) (h0 : 0 < n) (hE0 : E 0 = n) (h18 : ∀ i, tk i ≤ 18) (hnx : ∀ s, s < 6 → rp_w (nx s)) (hmq : ∀ t, t < 3 → rp_w (mq t)) (hok : yo_ok tk n E en bn)
    (hp : ∀ fi bo sk x, rp_R x (xt_S tk E n nx mq) → post x (nI n, nx, mq, xa_r tk, en, bn, fi, bo, sk)) : wpY_find post (nI n, nx, mq, xa_r tk, en, bn, fi, bo, sk) := by
  unfold wpY_find
  have := yi_2 (fi := fi) (bo := bo) (sk := sk) H h0 hE0 h18 hnx hmq hok hp n 0 (by omega)
  rw [yi_f0] at this
  exact ⟨_, this⟩
theorem yt_set {post : Int32 → SY → Prop} (hn : n ≤ 12) (h18 : ∀ i, tk i ≤ 18) (hnx : ∀ s, s < 6 → rp_w (nx s)) (hmq : ∀ t, t < 3 → rp_w (mq t))
    (hbad : ∀ en bn, (¬ ∃ E', fo_Sd tk n E') → post (-3) (nI n, nx, mq, xa_r tk, en, bn, fi, bo, sk)) (hgood : ∀ E en bn fi bo sk x, fo_Sd tk n E → rp_R x (xt_S tk E n nx mq) → post x (nI n, nx, mq, xa_r tk, en, bn, fi, bo, sk)) : wpY_set post (nI n, nx, mq, xa_r tk, en, bn, fi, bo, sk) := by
  unfold wpY_set
  dsimp only
  refine yo_w hn h18 (fun en bn hno => ?_) (fun E en bn sd ok => ?_)
  · exact br_t rfl (hbad _ _ hno)
  · refine br_f (by decide) ?_
    refine yi_w (me_HS sd h18 hn) sd.2.2.1 sd.2.2.2.1 h18 hnx hmq ok (fun fi bo sk x hx => ?_)
    exact hgood E _ _ _ _ _ x sd hx
theorem yt_bit {x : Int32} {s : Nat} (hs : s < 6) : ((x >>> (nI s &&& 31)) &&& 1) = 1 ↔ bt x s = true := by
  constructor
  · intro h
    cases z : bt x s
    · have := (xo_bit x (j := s) (by omega)).2 z
      rw [h] at this
      exact absurd this (by decide)
    · rfl
  · intro h
    apply b_ext
    intro i hi
    rw [b_and, xo_1 i hi]
    by_cases c : i = 0
    · subst c
      rw [b_sshr s (by omega) x (by decide), if_pos (by omega), show s + 0 = s from rfl, h]; rfl
    · rw [decide_eq_false c, Bool.and_false]
theorem yt_holds0 {post : Int32 → SY → Prop} {x : Int32} (hn : n ≤ 12) (h18 : ∀ i, tk i ≤ 18) (h : x < 0 ∨ nI 6 ≤ x) (hp : ∀ en bn, post 0 (nI n, nx, mq, xa_r tk, en, bn, fi, bo, sk)) : wpY_holds post (nI n, nx, mq, xa_r tk, en, bn, fi, bo, sk) x := by
  unfold wpY_holds
  dsimp only
  refine yo_w hn h18 (fun en bn hno => ?_) (fun E en bn sd ok => ?_)
  · exact br_t rfl (hp _ _)
  · refine br_f (by decide) ?_
    refine ys_is0 h ?_
    exact br_t rfl (hp _ _)
theorem yt_holds1 {post : Int32 → SY → Prop} {s : Nat} (hs : s < 6) (hn : n ≤ 12) (h18 : ∀ i, tk i ≤ 18) (hnx : ∀ s, s < 6 → rp_w (nx s)) (hmq : ∀ t, t < 3 → rp_w (mq t))
    (hbad : ∀ en bn, (¬ ∃ E', fo_Sd tk n E') → post 0 (nI n, nx, mq, xa_r tk, en, bn, fi, bo, sk)) (hgood : ∀ E en bn fi bo sk, fo_Sd tk n E → post (if xt_S tk E n nx mq s = true then 1 else 0) (nI n, nx, mq, xa_r tk, en, bn, fi, bo, sk)) : wpY_holds post (nI n, nx, mq, xa_r tk, en, bn, fi, bo, sk) (nI s) := by
  unfold wpY_holds
  dsimp only
  refine yo_w hn h18 (fun en bn hno => ?_) (fun E en bn sd ok => ?_)
  · exact br_t rfl (hbad _ _ hno)
  · refine br_f (by decide) ?_
    refine ys_is1 hs ?_
    refine br_f (by decide) ?_
    refine yi_w (me_HS sd h18 hn) sd.2.2.1 sd.2.2.2.1 h18 hnx hmq ok (fun fi bo sk x hx => ?_)
    have g := hgood E en bn fi bo sk sd
    have eb : bt x s = xt_S tk E n nx mq s := by
      rw [hx s (by omega), decide_eq_true hs, Bool.true_and]
    unfold wpY_in
    by_cases c : xt_S tk E n nx mq s = true
    · rw [if_pos c] at g
      exact br_t ((yt_bit hs).2 (eb.trans c)) ⟨narrow_b1, g⟩
    · rw [if_neg c] at g
      exact br_f (fun z => c (eb.symm.trans ((yt_bit hs).1 z))) ⟨narrow_b0, g⟩
end
end
section
/-- the relation at the head of a turn: tokens, system and marks alike; the component's caches true; the reference's scratch arrays free -/
def i_Rel (k : Nat) (u : SX) (v : SY) : Prop :=
  ∃ (n : Nat) (tk : Nat → Nat) (pa is de so : Int32) (nx mq tE sT bi dO ms mA dg en bn fi bo sk : Nat → Int32),
    n ≤ 12 ∧ (∀ i, tk i ≤ 18) ∧ (∀ s, s < 6 → rp_w (nx s)) ∧ (∀ t, t < 3 → rp_w (mq t)) ∧ xr_I tk n nx mq pa is de so tE sT bi dO ms ∧ u = (nI n, pa, is, de, so, nx, mq, xa_r tk, tE, sT, bi, dO, ms, mA, dg) ∧ v = (nI n, nx, mq, xa_r tk, en, bn, fi, bo, sk)
theorem iz_el {k : Nat} {u : SX} {v : SY} {P : SX → SY → Prop}
    (h : ∀ (n : Nat) (tk : Nat → Nat) (pa is de so : Int32) (nx mq tE sT bi dO ms mA dg en bn fi bo sk : Nat → Int32),
      n ≤ 12 → (∀ i, tk i ≤ 18) → (∀ s, s < 6 → rp_w (nx s)) → (∀ t, t < 3 → rp_w (mq t)) → xr_I tk n nx mq pa is de so tE sT bi dO ms → P (nI n, pa, is, de, so, nx, mq, xa_r tk, tE, sT, bi, dO, ms, mA, dg) (nI n, nx, mq, xa_r tk, en, bn, fi, bo, sk))
    (I : i_Rel k u v) : P u v := by
  obtain ⟨n, tk, pa, is, de, so, nx, mq, tE, sT, bi, dO, ms, mA, dg, en, bn, fi, bo, sk, h1, h2, h3, h4, h5, rfl, rfl⟩ := I
  exact h n tk pa is de so nx mq tE sT bi dO ms mA dg en bn fi bo sk h1 h2 h3 h4 h5
section
variable {k n : Nat} {tk : Nat → Nat} {pa is de so : Int32} {nx mq tE sT bi dO ms mA dg en bn fi bo sk : Nat → Int32}
theorem iz_in (h1 : n ≤ 12) (h2 : ∀ i, tk i ≤ 18) (h3 : ∀ s, s < 6 → rp_w (nx s)) (h4 : ∀ t, t < 3 → rp_w (mq t)) (h5 : xr_I tk n nx mq pa is de so tE sT bi dO ms) : i_Rel k (nI n, pa, is, de, so, nx, mq, xa_r tk, tE, sT, bi, dO, ms, mA, dg) (nI n, nx, mq, xa_r tk, en, bn, fi, bo, sk) :=
  ⟨n, tk, pa, is, de, so, nx, mq, tE, sT, bi, dO, ms, mA, dg, en, bn, fi, bo, sk, h1, h2, h3, h4, h5, rfl, rfl⟩
theorem iz_0 : xr_I tk n nx mq 0 is de 0 tE sT bi dO ms := ⟨fun _ => rfl, fun z => absurd rfl z, fun z => absurd rfl z⟩
theorem iz_so {nx' mq' : Nat → Int32} (h : xr_I tk n nx mq pa is de so tE sT bi dO ms) : xr_I tk n nx' mq' pa is de 0 tE sT bi dO ms := ⟨fun _ => rfl, h.2.1, fun z => absurd rfl z⟩
theorem iz_nx {s t : Nat} {b : Int32} (h : ∀ s, s < 6 → rp_w (nx s)) (ht : t < 6) : ∀ j, j < 6 → rp_w (xs_nx nx s t b j) := by
  intro j hj
  unfold xs_nx
  by_cases c : j = s
  · subst c
    rw [pk_us]
    intro i h6 hi
    by_cases d : b = 0
    · rw [if_pos d, b_and, h j hj i h6 hi, Bool.false_and]
    · rw [if_neg d, b_or, h j hj i h6 hi, rp_s (by omega) hi, decide_eq_false (by omega)]; rfl
  · rw [pk_un c]; exact h j hj
theorem iz_63 : ∀ j, j < 64 → ∀ i, i < 32 → 6 ≤ i → bt (nI j) i = false := by decide +kernel
theorem iz_mq {i : Nat} {y : Int32} (h : ∀ t, t < 3 → rp_w (mq t)) (h1 : ¬ y < 0) (h2 : y ≤ 63) : ∀ t, t < 3 → rp_w (upd mq i y t) := by
  intro t ht
  by_cases c : t = i
  · subst c
    rw [pk_us]
    obtain ⟨j, hj, e⟩ := nI_of2 (M := 63) (n := 63) (by decide) h1 h2
    intro q h6 hq
    rw [e]
    exact iz_63 j (by omega) q hq h6
  · rw [pk_un c]; exact h t ht
end
theorem i_up {k : Nat} {u : SX} {v : SY} (h : i_Rel k u v) : i_Rel (k + 4) u v := h
theorem i_vc0 : wpX_init (fun u => wpY_init (fun v => i_Rel 0 u v)) := by
  have z : rp_w 0 := fun i _ _ => b_0 i
  exact iz_in (k := 0) (n := 0) (tk := fun _ => 0) (by omega) (fun _ => by omega) (fun _ _ => z) (fun _ _ => z) iz_0
theorem i_vc_step {k : Nat} {u : SX} {v : SY} (I : i_Rel k u v) (hk : k + 4 ≤ 2048) (v1 : Int32) (v2 : Int32) (v3 : Int32) : wpX_step (fun r u' => wpY_step (fun r' v' => r' = r ∧ i_Rel (k + 4) u' v') v v1 v2 (lw_bz v3)) u v1 v2 (lw_bz v3) := by
  refine iz_el (P := fun u v => wpX_step (fun r u' => wpY_step (fun r' v' => r' = r ∧ i_Rel (k + 4) u' v') v v1 v2 (lw_bz v3)) u v1 v2 (lw_bz v3)) ?_ I
  intro n tk pa is de so nx mq tE sT bi dO ms mA dg en bn fi bo sk hn h18 hnx hmq hI
  have bad : ((v1 < 0 ∨ nI 6 ≤ v1) ∨ ((∃ j, j < 6 ∧ v1 = nI j) ∧ (v2 < 0 ∨ nI 6 ≤ v2))) → wpX_step (fun r u' => wpY_step (fun r' v' => r' = r ∧ i_Rel (k + 4) u' v') (nI n, nx, mq, xa_r tk, en, bn, fi, bo, sk) v1 v2 (lw_bz v3)) (nI n, pa, is, de, so, nx, mq, xa_r tk, tE, sT, bi, dO, ms, mA, dg) v1 v2 (lw_bz v3) :=
    fun h => xs_step0 h (ys_step0 h ⟨rfl, iz_in hn h18 hnx hmq hI⟩)
  rcases pk_ix v1 (n := 6) (by decide) with h | h | ⟨s, hs, e⟩
  · exact bad (Or.inl (Or.inl h))
  · exact bad (Or.inl (Or.inr h))
  · rcases pk_ix v2 (n := 6) (by decide) with h | h | ⟨t, ht, e2⟩
    · exact bad (Or.inr ⟨⟨s, hs, e⟩, Or.inl h⟩)
    · exact bad (Or.inr ⟨⟨s, hs, e⟩, Or.inr h⟩)
    · subst e e2
      exact xs_step1 hs ht (ys_step1 hs ht ⟨rfl, iz_in hn h18 (iz_nx hnx ht) hmq (iz_so hI)⟩)
theorem i_vc_mark {k : Nat} {u : SX} {v : SY} (I : i_Rel k u v) (hk : k + 4 ≤ 2048) (v1 : Int32) (v2 : Int32) : wpX_mark (fun r u' => wpY_mark (fun r' v' => r' = r ∧ i_Rel (k + 4) u' v') v v1 v2) u v1 v2 := by
  refine iz_el (P := fun u v => wpX_mark (fun r u' => wpY_mark (fun r' v' => r' = r ∧ i_Rel (k + 4) u' v') v v1 v2) u v1 v2) ?_ I
  intro n tk pa is de so nx mq tE sT bi dO ms mA dg en bn fi bo sk hn h18 hnx hmq hI
  by_cases h : v1 < 0 ∨ 2 < v1 ∨ v2 < 0 ∨ ¬ v2 ≤ 63
  · exact xs_mark0 h (ys_mark0 h ⟨rfl, iz_in hn h18 hnx hmq hI⟩)
  · have a1 : ¬ v1 < 0 := fun z => h (Or.inl z)
    have a2 : ¬ 2 < v1 := fun z => h (Or.inr (Or.inl z))
    have a3 : ¬ v2 < 0 := fun z => h (Or.inr (Or.inr (Or.inl z)))
    have a4 : v2 ≤ 63 := Decidable.byContradiction (fun z => h (Or.inr (Or.inr (Or.inr z))))
    obtain ⟨i, hi, e⟩ := nI_of2 (M := 2) (n := 2) (by decide) a1 (Int32.not_lt.mp a2)
    subst e
    exact xs_mark1 (by omega) a3 a4 (ys_mark1 (by omega) a3 a4 ⟨rfl, iz_in hn h18 hnx (iz_mq hmq a3 a4) (iz_so hI)⟩)
theorem i_vc_token {k : Nat} {u : SX} {v : SY} (I : i_Rel k u v) (hk : k + 4 ≤ 2048) (v1 : Int32) : wpX_token (fun r u' => wpY_token (fun r' v' => r' = r ∧ i_Rel (k + 4) u' v') v v1) u v1 := by
  refine iz_el (P := fun u v => wpX_token (fun r u' => wpY_token (fun r' v' => r' = r ∧ i_Rel (k + 4) u' v') v v1) u v1) ?_ I
  intro n tk pa is de so nx mq tE sT bi dO ms mA dg en bn fi bo sk hn h18 hnx hmq hI
  have R : i_Rel (k + 4) (nI n, pa, is, de, so, nx, mq, xa_r tk, tE, sT, bi, dO, ms, mA, dg) (nI n, nx, mq, xa_r tk, en, bn, fi, bo, sk) := iz_in hn h18 hnx hmq hI
  refine xs_token hn (fun c => ?_) (fun c d => ?_) (fun t c ht e => ?_)
  · exact ys_token hn (fun _ => ⟨rfl, R⟩) (fun c' => by omega) (fun t c' => by omega)
  · refine ys_token hn (fun c' => by omega) (fun _ _ => ⟨rfl, R⟩) (fun t _ ht e => ?_)
    subst e
    rcases d with d | d
    · exact absurd d (nI_pos (by omega))
    · exact absurd (nI_le (a := t) (b := 18) ht (by decide)) d
  · refine ys_token hn (fun c' => by omega) (fun _ d => ?_) (fun t' _ ht' e' => ⟨rfl, ?_⟩)
    · subst e
      rcases d with d | d
      · exact absurd d (nI_pos (by omega))
      · exact absurd (nI_le (a := t) (b := 18) ht (by decide)) d
    · have et : t' = t := (nI_eq (by omega) (by omega)).1 (e'.symm.trans e)
      subst et
      refine iz_in (by omega) (fun i => ?_) hnx hmq iz_0
      by_cases q : i = n
      · subst q; rw [xa_us]; exact ht
      · rw [xa_un q]; exact h18 i
theorem i_vc_wipe {k : Nat} {u : SX} {v : SY} (I : i_Rel k u v) (hk : k + 4 ≤ 2048) : wpX_wipe (fun r u' => wpY_wipe (fun r' v' => r' = r ∧ i_Rel (k + 4) u' v') v) u := by
  refine iz_el (P := fun u v => wpX_wipe (fun r u' => wpY_wipe (fun r' v' => r' = r ∧ i_Rel (k + 4) u' v') v) u) ?_ I
  intro n tk pa is de so nx mq tE sT bi dO ms mA dg en bn fi bo sk hn h18 hnx hmq hI
  exact xs_wipe (ys_wipe ⟨rfl, iz_in (n := 0) (by omega) h18 hnx hmq iz_0⟩)
theorem i_vc_turn {k : Nat} {u : SX} {v : SY} (I : i_Rel k u v) (hk : k + 4 ≤ 2048) : wpX_turn (fun r u' => wpY_turn (fun r' v' => r' = r ∧ i_Rel (k + 4) u' v') v) u := by
  refine iz_el (P := fun u v => wpX_turn (fun r u' => wpY_turn (fun r' v' => r' = r ∧ i_Rel (k + 4) u' v') v) u) ?_ I
  intro n tk pa is de so nx mq tE sT bi dO ms mA dg en bn fi bo sk hn h18 hnx hmq hI
  refine tu_Xw hn h18 (tu_Yw hn h18 ⟨rfl, iz_in hn (fun i => ?_) hnx hmq iz_0⟩)
  unfold tu_a
  by_cases c : i < n
  · rw [if_pos c]; exact tu_18 _ (h18 i)
  · rw [if_neg c]; exact h18 i
theorem i_vc_sound {k : Nat} {u : SX} {v : SY} (I : i_Rel k u v) (hk : k + 4 ≤ 2048) : wpX_sound (fun r u' => wpY_sound (fun r' v' => r' = r ∧ i_Rel (k + 4) u' v') v) u := by
  refine iz_el (P := fun u v => wpX_sound (fun r u' => wpY_sound (fun r' v' => r' = r ∧ i_Rel (k + 4) u' v') v) u) ?_ I
  intro n tk pa is de so nx mq tE sT bi dO ms mA dg en bn fi bo sk hn h18 hnx hmq hI
  refine xt_sound hn h18 hI (fun pa de tE sT bi dO hno hI' => ?_) (fun pa de tE sT bi dO E sd hI' => ?_)
  · exact yo_w hn h18 (fun en bn _ => ⟨rfl, iz_in hn h18 hnx hmq hI'⟩) (fun E' en bn sd' _ => absurd ⟨E', sd'⟩ hno)
  · exact yo_w hn h18 (fun en bn hno => absurd ⟨E, sd⟩ hno) (fun E' en bn sd' _ => ⟨rfl, iz_in hn h18 hnx hmq hI'⟩)
theorem i_vc_holds {k : Nat} {u : SX} {v : SY} (I : i_Rel k u v) (hk : k + 4 ≤ 2048) (v1 : Int32) : wpX_holds (fun r u' => wpY_holds (fun r' v' => r' = r ∧ i_Rel (k + 4) u' v') v v1) u v1 := by
  refine iz_el (P := fun u v => wpX_holds (fun r u' => wpY_holds (fun r' v' => r' = r ∧ i_Rel (k + 4) u' v') v v1) u v1) ?_ I
  intro n tk pa is de so nx mq tE sT bi dO ms mA dg en bn fi bo sk hn h18 hnx hmq hI
  have bad : (v1 < 0 ∨ nI 6 ≤ v1) → wpX_holds (fun r u' => wpY_holds (fun r' v' => r' = r ∧ i_Rel (k + 4) u' v') (nI n, nx, mq, xa_r tk, en, bn, fi, bo, sk) v1) (nI n, pa, is, de, so, nx, mq, xa_r tk, tE, sT, bi, dO, ms, mA, dg) v1 :=
    fun h => xt_holds0 h (yt_holds0 hn h18 h (fun en bn => ⟨rfl, iz_in hn h18 hnx hmq hI⟩))
  rcases pk_ix v1 (n := 6) (by decide) with h | h | ⟨s, hs, e⟩
  · exact bad (Or.inl h)
  · exact bad (Or.inr h)
  · subst e
    refine xt_holds1 hs hn h18 hI (fun pa de tE sT bi dO hno hI' => ?_) (fun pa de so tE sT bi dO ms mA dg E sd hI' => ?_)
    · exact yt_holds1 hs hn h18 hnx hmq (fun en bn _ => ⟨rfl, iz_in hn h18 hnx hmq hI'⟩) (fun E' en bn fi bo sk sd' => absurd ⟨E', sd'⟩ hno)
    · refine yt_holds1 hs hn h18 hnx hmq (fun en bn hno => absurd ⟨E, sd⟩ hno) (fun E' en bn fi bo sk sd' => ⟨?_, iz_in hn h18 hnx hmq hI'⟩)
      rw [fo_Su sd sd']
theorem i_vc_set {k : Nat} {u : SX} {v : SY} (I : i_Rel k u v) (hk : k + 4 ≤ 2048) : wpX_set (fun r u' => wpY_set (fun r' v' => r' = r ∧ i_Rel (k + 4) u' v') v) u := by
  refine iz_el (P := fun u v => wpX_set (fun r u' => wpY_set (fun r' v' => r' = r ∧ i_Rel (k + 4) u' v') v) u) ?_ I
  intro n tk pa is de so nx mq tE sT bi dO ms mA dg en bn fi bo sk hn h18 hnx hmq hI
  refine xt_set hn h18 hI (fun pa de tE sT bi dO hno hI' => ?_) (fun pa de so tE sT bi dO ms mA dg E x sd hx hI' => ?_)
  · exact yt_set hn h18 hnx hmq (fun en bn _ => ⟨rfl, iz_in hn h18 hnx hmq hI'⟩) (fun E' en bn fi bo sk x sd' => absurd ⟨E', sd'⟩ hno)
  · refine yt_set hn h18 hnx hmq (fun en bn hno => absurd ⟨E, sd⟩ hno) (fun E' en bn fi bo sk y sd' hy => ⟨?_, iz_in hn h18 hnx hmq hI'⟩)
    rw [← fo_Su sd sd'] at hy
    exact rp_u hy hx
theorem i_vc_depth {k : Nat} {u : SX} {v : SY} (I : i_Rel k u v) (hk : k + 4 ≤ 2048) : wpX_depth (fun r u' => wpY_depth (fun r' v' => r' = r ∧ i_Rel (k + 4) u' v') v) u := by
  refine iz_el (P := fun u v => wpX_depth (fun r u' => wpY_depth (fun r' v' => r' = r ∧ i_Rel (k + 4) u' v') v) u) ?_ I
  intro n tk pa is de so nx mq tE sT bi dO ms mA dg en bn fi bo sk hn h18 hnx hmq hI
  refine xt_depth hn h18 hI (fun pa de tE sT bi dO hno hI' => ?_) (fun pa de tE sT bi dO E sd hI' => ?_)
  · exact yd_w hn h18 (fun en bn _ => ⟨rfl, iz_in hn h18 hnx hmq hI'⟩) (fun E' en bn sd' => absurd ⟨E', sd'⟩ hno)
  · refine yd_w hn h18 (fun en bn hno => absurd ⟨E, sd⟩ hno) (fun E' en bn sd' => ⟨?_, iz_in hn h18 hnx hmq hI'⟩)
    rw [fo_Su sd sd']
theorem i_vc_steps {k : Nat} {u : SX} {v : SY} (I : i_Rel k u v) (hk : k + 4 ≤ 2048) (v1 : Int32) : wpX_steps (fun r => wpY_steps (fun r' => r' = r ∧ i_Rel (k + 4) u v) v v1) u v1 := by
  refine iz_el (P := fun u v => wpX_steps (fun r => wpY_steps (fun r' => r' = r ∧ i_Rel (k + 4) u v) v v1) u v1) ?_ I
  intro n tk pa is de so nx mq tE sT bi dO ms mA dg en bn fi bo sk hn h18 hnx hmq hI
  have R : i_Rel (k + 4) (nI n, pa, is, de, so, nx, mq, xa_r tk, tE, sT, bi, dO, ms, mA, dg) (nI n, nx, mq, xa_r tk, en, bn, fi, bo, sk) := iz_in hn h18 hnx hmq hI
  rcases pk_ix v1 (n := 6) (by decide) with h | h | ⟨s, hs, e⟩
  · exact xs_steps0 (Or.inl h) (ys_steps0 (Or.inl h) ⟨rfl, R⟩)
  · exact xs_steps0 (Or.inr h) (ys_steps0 (Or.inr h) ⟨rfl, R⟩)
  · subst e
    exact xs_steps1 hs (ys_steps1 hs ⟨rfl, R⟩)
end
