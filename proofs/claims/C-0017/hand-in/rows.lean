section
/-! pure rows to paste: stores, nI and lN arithmetic, masks, shifts, narrowing, branches by naturals (pk_le, pk_lt, pk_eq), loops (lp1 .. lp16: the measure of the state; rp1 ..: recursion), negatives. Take what you need -/
theorem pk_us {f : Nat → Int32} {k : Nat} {x : Int32} : upd f k x k = x := if_pos rfl
theorem pk_un {f : Nat → Int32} {k j : Nat} {x : Int32} (h : j ≠ k) : upd f k x j = f j := if_neg h
theorem pk_uLs {f : Nat → Int64} {k : Nat} {x : Int64} : vp_updL f k x k = x := if_pos rfl
theorem pk_uLn {f : Nat → Int64} {k j : Nat} {x : Int64} (h : j ≠ k) : vp_updL f k x j = f j := if_neg h
theorem pk_sub {a b : Nat} (h : b ≤ a) : nI a - nI b = nI (a - b) := by
  obtain ⟨c, rfl⟩ : ∃ c, a = c + b := ⟨a - b, by omega⟩
  rw [← nI_add, Int32.add_sub_cancel, Nat.add_sub_cancel]
theorem pk_m1 (n : Nat) : nI (n + 1) + (-1) = nI n := by
  rw [← nI_1, Int32.add_assoc, show (1 : Int32) + (-1) = 0 from rfl, Int32.add_zero]
theorem pk_mul (a b : Nat) : nI a * nI b = nI (a * b) := (Int32.ofNat_mul a b).symm
theorem pk_div {a d : Nat} (ha : a < 2 ^ 31) (h0 : 0 < d) (hd : d < 2 ^ 31) : nI a / nI d = nI (a / d) := by
  apply Int32.toInt_inj.mp
  rw [lg_idiv_nonneg (by rw [nI_toInt ha]; omega) (by rw [nI_toInt hd]; omega), nI_toInt ha, nI_toInt hd, nI_toInt (Nat.lt_of_le_of_lt (Nat.div_le_self a d) ha)]
  first | rfl | exact (Int.natCast_ediv _ _).symm
theorem pk_rem {a d : Nat} (ha : a < 2 ^ 31) (h0 : 0 < d) (hd : d < 2 ^ 31) : nI a - nI a / nI d * nI d = nI (a % d) := by
  rw [pk_div ha h0 hd, pk_mul, pk_sub (Nat.div_mul_le_self a d)]
  exact congrArg nI (by have := Nat.div_add_mod' a d; omega)
theorem pk_sub_toInt {a b : Nat} (ha : a < 2 ^ 30) (hb : b < 2 ^ 30) : (nI a - nI b).toInt = (a : Int) - b := by
  rw [Int32.toInt_sub, nI_toInt (by omega), nI_toInt (by omega)]
  exact Int.bmod_eq_of_le (by omega) (by omega)
theorem pk_sneg {a b : Nat} (hb : b < 2 ^ 30) (h : a < b) : nI a - nI b < 0 := by
  rw [Int32.lt_iff_toInt_lt, pk_sub_toInt (by omega) hb, show (0 : Int32).toInt = 0 from by decide]
  omega
theorem pk_ix (x : Int32) {n : Nat} (hn : n < 2 ^ 31) : x < 0 ∨ nI n ≤ x ∨ ∃ j : Nat, j < n ∧ x = nI j := by
  by_cases h : x < 0
  · exact Or.inl h
  · obtain ⟨j, hj, rfl⟩ := nI_of h
    by_cases h2 : j < n
    · exact Or.inr (Or.inr ⟨j, h2, rfl⟩)
    · exact Or.inr (Or.inl (nI_le (by omega) hj))
theorem pk_le {x y : Int32} {A B : Prop} (a b : Nat) (f : a ≤ b → A) (g : b < a → B) (hx : x = nI a := by rfl) (hy : y = nI b := by rfl) (ha : a < 2 ^ 31 := by omega) (hb : b < 2 ^ 31 := by omega) : (x ≤ y → A) ∧ (¬ x ≤ y → B) := by
  subst hx hy
  rw [nI_leI ha hb]
  exact ⟨f, fun z => g (by omega)⟩
theorem pk_lt {x y : Int32} {A B : Prop} (a b : Nat) (f : a < b → A) (g : b ≤ a → B) (hx : x = nI a := by rfl) (hy : y = nI b := by rfl) (ha : a < 2 ^ 31 := by omega) (hb : b < 2 ^ 31 := by omega) : (x < y → A) ∧ (¬ x < y → B) := by
  subst hx hy
  rw [nI_ltI ha hb]
  exact ⟨f, fun z => g (by omega)⟩
theorem pk_eq {x y : Int32} {A B : Prop} (a b : Nat) (f : a = b → A) (g : a ≠ b → B) (hx : x = nI a := by rfl) (hy : y = nI b := by rfl) (ha : a < 2 ^ 31 := by omega) (hb : b < 2 ^ 31 := by omega) : (x = y → A) ∧ (¬ x = y → B) := by
  subst hx hy
  rw [nI_eq ha hb]
  exact ⟨f, g⟩
theorem pk_in {x : Int32} (n N : Nat) (h : n < N) (hx : x = nI n := by rfl) (hN : N < 2 ^ 31 := by omega) : vp_in x N := by
  subst hx
  exact vp_in_nI h hN
theorem pk_cl {x : Int32} (n : Nat) (hx : x = nI n := by rfl) (h : n < 2 ^ 31 := by omega) : x.toNatClampNeg = n := by
  subst hx
  exact nI_clamp h
theorem pk_tn {n : Nat} (h : n < 2 ^ 32) : (nI n).toBitVec.toNat = n := Nat.mod_eq_of_lt h
theorem pk_and (x : Int32) {m : Int32} (k : Nat) (hm : m.toBitVec.toNat = 2 ^ k - 1) : x &&& m = nI (x.toBitVec.toNat % 2 ^ k) := by
  apply Int32.toBitVec_inj.mp
  apply BitVec.eq_of_toNat_eq
  rw [Int32.toBitVec_and, BitVec.toNat_and, hm, Nat.and_two_pow_sub_one_eq_mod]
  show _ = (BitVec.ofNat 32 _).toNat
  rw [BitVec.toNat_ofNat]
  exact (Nat.mod_eq_of_lt (Nat.lt_of_le_of_lt (Nat.mod_le _ _) x.toBitVec.isLt)).symm
theorem pk_andN {n : Nat} (h : n < 2 ^ 32) {m : Int32} (k : Nat) (hm : m.toBitVec.toNat = 2 ^ k - 1) : nI n &&& m = nI (n % 2 ^ k) := by
  rw [pk_and _ k hm, pk_tn h]
theorem pk_andE (x : Int32) {m : Int32} (k : Nat) (hm : m.toBitVec.toNat = 2 ^ k - 1) : ∃ j : Nat, j < 2 ^ k ∧ x &&& m = nI j := ⟨_, Nat.mod_lt _ (Nat.two_pow_pos k), pk_and x k hm⟩
theorem pk_andIn (x : Int32) {m : Int32} (k : Nat) (hm : m.toBitVec.toNat = 2 ^ k - 1) (hk : k ≤ 30) : vp_in (x &&& m) (2 ^ k) := by
  obtain ⟨j, hj, e⟩ := pk_andE x k hm
  rw [e]
  exact vp_in_nI hj (Nat.lt_of_le_of_lt (Nat.pow_le_pow_right (by decide) hk) (by decide))
theorem pk_shl (a s : Int32) (k : Nat) (hs : (s.toBitVec.smod 32).toNat = k) : (a <<< s).toBitVec.toNat = a.toBitVec.toNat * 2 ^ k % 2 ^ 32 := by
  show (a.toBitVec <<< (s.toBitVec.smod 32).toNat).toNat = _
  rw [hs, BitVec.toNat_shiftLeft, Nat.shiftLeft_eq]
theorem pk_shlN {n : Nat} (s : Int32) (k : Nat) (hs : (s.toBitVec.smod 32).toNat = k) (h : n * 2 ^ k < 2 ^ 32) : nI n <<< s = nI (n * 2 ^ k) := by
  apply Int32.toBitVec_inj.mp
  apply BitVec.eq_of_toNat_eq
  have hn : n < 2 ^ 32 := Nat.lt_of_le_of_lt (Nat.le_mul_of_pos_right n (Nat.two_pow_pos k)) h
  rw [pk_shl _ _ k hs, pk_tn hn, pk_tn h, Nat.mod_eq_of_lt h]
theorem pk_shr (a s : Int32) (k : Nat) (hs : (s.toBitVec.smod 32).toNat = k) : (a >>> s).toInt = a.toInt >>> k := by
  show (a.toBitVec.sshiftRight (s.toBitVec.smod 32).toNat).toInt = _
  rw [hs, BitVec.toInt_sshiftRight]
  rfl
theorem pk_shrN {n : Nat} (h : n < 2 ^ 31) (s : Int32) (k : Nat) (hs : (s.toBitVec.smod 32).toNat = k) : nI n >>> s = nI (n / 2 ^ k) := by
  apply Int32.toInt_inj.mp
  have h2 : n / 2 ^ k ≤ n := Nat.div_le_self _ _
  rw [pk_shr _ _ k hs, nI_toInt h, nI_toInt (by omega), Int.shiftRight_eq_div_pow]
  rfl
theorem pk_ushr (x s : Int32) (k : Nat) (hs : ((s.toUInt32 &&& Int32.toUInt32 31).toBitVec % 32).toNat = k) : (x.toUInt32 >>> (s.toUInt32 &&& Int32.toUInt32 31)).toInt32.toBitVec.toNat = x.toBitVec.toNat / 2 ^ k := by
  have e : (x.toUInt32 >>> (s.toUInt32 &&& Int32.toUInt32 31)).toInt32.toBitVec = x.toBitVec >>> k := by
    rw [← hs]
    exact UInt32.toBitVec_shiftRight _ _
  rw [e, BitVec.toNat_ushiftRight, Nat.shiftRight_eq_div_pow]
theorem pk_ushrN {n : Nat} (hn : n < 2 ^ 32) (s : Int32) (k : Nat) (hs : ((s.toUInt32 &&& Int32.toUInt32 31).toBitVec % 32).toNat = k) : ((nI n).toUInt32 >>> (s.toUInt32 &&& Int32.toUInt32 31)).toInt32 = nI (n / 2 ^ k) := by
  apply Int32.toBitVec_inj.mp
  apply BitVec.eq_of_toNat_eq
  rw [pk_ushr _ s k hs, pk_tn hn, pk_tn (Nat.lt_of_le_of_lt (Nat.div_le_self _ _) hn)]
theorem pk_nb (z : Int32) : narrow .byte (.int z.toInt8.toInt32) = .int z.toInt8.toInt32 := congrArg Value.int (by simp)
theorem pk_ns (z : Int32) : narrow .short (.int z.toInt16.toInt32) = .int z.toInt16.toInt32 := congrArg Value.int (by simp)
theorem pk_fb (r : Int32) : fits .byte (.int r.toInt8.toInt32) = true := by
  have ⟨a, b⟩ := lg_i2b_range r
  have h1 : (-128 : Int32).toInt = -128 := by decide
  have h2 : (127 : Int32).toInt = 127 := by decide
  simp only [fits, Bool.and_eq_true, decide_eq_true_eq, Int32.le_iff_toInt_le, h1, h2]
  omega
theorem pk_fs (r : Int32) : fits .short (.int r.toInt16.toInt32) = true := by
  have ⟨a, b⟩ := lg_i2s_range r
  have h1 : (-32768 : Int32).toInt = -32768 := by decide
  have h2 : (32767 : Int32).toInt = 32767 := by decide
  simp only [fits, Bool.and_eq_true, decide_eq_true_eq, Int32.le_iff_toInt_le, h1, h2]
  omega
theorem pk_charN {q : Nat} (hq : q < 65536) : narrow .char (.int (nI q)) = .int (nI q) ∧ fits .char (.int (nI q)) = true := by
  constructor
  · have e : (nI q).toUInt32.toUInt16.toUInt32.toInt32 = nI q := by
      apply Int32.toBitVec_inj.mp
      apply BitVec.eq_of_toNat_eq
      show (nI q).toUInt32.toUInt16.toUInt32.toNat = q % 2 ^ 32
      rw [UInt16.toNat_toUInt32, UInt32.toNat_toUInt16, show (nI q).toUInt32.toNat = q % 2 ^ 32 from rfl]
      omega
    exact congrArg Value.int e
  · have a : (0 : Int32) ≤ nI q := nI_pos' (by omega)
    have b : nI q ≤ 65535 := nI_le (b := 65535) (by omega) (by decide)
    show (decide ((0 : Int32) ≤ nI q) && decide (nI q ≤ 65535)) = true
    rw [decide_eq_true a, decide_eq_true b]
    rfl
theorem pk_char (x : Int32) : (x.toUInt32 % 65536).toInt32 = nI (x.toBitVec.toNat % 65536) := by
  apply Int32.toBitVec_inj.mp
  apply BitVec.eq_of_toNat_eq
  rw [pk_tn (by omega)]
  show (x.toUInt32 % 65536).toNat = _
  rw [UInt32.toNat_mod]
  rfl
theorem pk_nc (x : Int32) : narrow .char (.int (x.toUInt32 % 65536).toInt32) = .int (x.toUInt32 % 65536).toInt32 := by
  rw [pk_char]
  exact (pk_charN (Nat.mod_lt _ (by decide))).1
theorem pk_fc (x : Int32) : fits .char (.int (x.toUInt32 % 65536).toInt32) = true := by
  rw [pk_char]
  exact (pk_charN (Nat.mod_lt _ (by decide))).2
theorem pk_vb (z : Int32) : vp_nar .byte z.toInt8.toInt32 = z.toInt8.toInt32 := by rw [vp_nar_byte]; simp
theorem pk_vs (z : Int32) : vp_nar .short z.toInt16.toInt32 = z.toInt16.toInt32 := by rw [vp_nar_short]; simp
theorem pk_vc (z : Int32) : vp_nar .char (z.toUInt32 % 65536).toInt32 = (z.toUInt32 % 65536).toInt32 := Value.int.inj (pk_nc z)
/-! ===== Int32 by its bits: bt x i ===== -/
def bt (x : Int32) (i : Nat) : Bool := x.toBitVec.getLsbD i
theorem b_ext {x y : Int32} (h : ∀ i, i < 32 → bt x i = bt y i) : x = y := Int32.toBitVec_inj.mp (BitVec.eq_of_getLsbD_eq (fun i hi => h i hi))
theorem b_or (x y : Int32) (i : Nat) : bt (x ||| y) i = (bt x i || bt y i) := by unfold bt; rw [Int32.toBitVec_or, BitVec.getLsbD_or]
theorem b_and (x y : Int32) (i : Nat) : bt (x &&& y) i = (bt x i && bt y i) := by unfold bt; rw [Int32.toBitVec_and, BitVec.getLsbD_and]
theorem b_xor (x y : Int32) (i : Nat) : bt (x ^^^ y) i = (bt x i ^^ bt y i) := by unfold bt; rw [Int32.toBitVec_xor, BitVec.getLsbD_xor]
theorem b_big {x : Int32} {i : Nat} (h : 32 ≤ i) : bt x i = false := BitVec.getLsbD_of_ge _ _ h
theorem b_255 (i : Nat) : bt 255 i = decide (i < 8) := by
  rcases Nat.lt_or_ge i 32 with h | h
  · exact (by decide +kernel : ∀ i, i < 32 → bt 255 i = decide (i < 8)) i h
  · rw [b_big h, decide_eq_false (by omega)]
theorem b_65535 (i : Nat) : bt 65535 i = decide (i < 16) := by
  rcases Nat.lt_or_ge i 32 with h | h
  · exact (by decide +kernel : ∀ i, i < 32 → bt 65535 i = decide (i < 16)) i h
  · rw [b_big h, decide_eq_false (by omega)]
theorem b_m1 : ∀ i, i < 32 → bt (-1) i = true := by decide +kernel
theorem b_0 (i : Nat) : bt 0 i = false := BitVec.getLsbD_zero
theorem s_l : ∀ n, n < 32 → ((nI n &&& 31).toBitVec.smod 32).toNat = n := by decide +kernel
theorem s_u : ∀ n, n < 32 → (((nI n).toUInt32 &&& Int32.toUInt32 31).toBitVec % 32).toNat = n := by decide +kernel
theorem b_shl (n : Nat) (hn : n < 32) (x : Int32) {i : Nat} (hi : i < 32) : bt (x <<< (nI n &&& 31)) i = (decide (n ≤ i) && bt x (i - n)) := by
  unfold bt
  rw [Int32.toBitVec_shiftLeft]
  show (x.toBitVec <<< ((nI n &&& 31).toBitVec.smod 32).toNat).getLsbD i = _
  rw [s_l n hn, BitVec.getLsbD_shiftLeft]
  rcases Nat.lt_or_ge i n with h | h
  · simp [h, Nat.not_le.mpr h]
  · simp [hi, h, Nat.not_lt.mpr h]
theorem b_ushr (n : Nat) (hn : n < 32) (x : Int32) (i : Nat) : bt ((x.toUInt32 >>> ((nI n).toUInt32 &&& Int32.toUInt32 31)).toInt32) i = bt x (n + i) := by
  show (x.toUInt32 >>> ((nI n).toUInt32 &&& Int32.toUInt32 31)).toBitVec.getLsbD i = x.toUInt32.toBitVec.getLsbD (n + i)
  rw [UInt32.toBitVec_shiftRight]
  show (x.toUInt32.toBitVec >>> (((nI n).toUInt32 &&& Int32.toUInt32 31).toBitVec % 32).toNat).getLsbD i = _
  rw [s_u n hn, BitVec.getLsbD_ushiftRight]
theorem b_sshr (n : Nat) (hn : n < 32) (x : Int32) {i : Nat} (hi : i < 32) : bt (x >>> (nI n &&& 31)) i = if n + i < 32 then bt x (n + i) else bt x 31 := by
  unfold bt
  rw [Int32.toBitVec_shiftRight]
  show (x.toBitVec.sshiftRight ((nI n &&& 31).toBitVec.smod 32).toNat).getLsbD i = _
  rw [s_l n hn, BitVec.getLsbD_sshiftRight, BitVec.msb_eq_getLsbD_last]
  simp [hi]
theorem b_shl8 (x : Int32) {i : Nat} (hi : i < 32) : bt (x <<< ((8 : Int32) &&& 31)) i = (decide (8 ≤ i) && bt x (i - 8)) := b_shl 8 (by omega) x hi
theorem b_shl16 (x : Int32) {i : Nat} (hi : i < 32) : bt (x <<< ((16 : Int32) &&& 31)) i = (decide (16 ≤ i) && bt x (i - 16)) := b_shl 16 (by omega) x hi
theorem b_shl24 (x : Int32) {i : Nat} (hi : i < 32) : bt (x <<< ((24 : Int32) &&& 31)) i = (decide (24 ≤ i) && bt x (i - 24)) := b_shl 24 (by omega) x hi
theorem b_sshr8 (x : Int32) {i : Nat} (hi : i < 32) : bt (x >>> ((8 : Int32) &&& 31)) i = if 8 + i < 32 then bt x (8 + i) else bt x 31 := b_sshr 8 (by omega) x hi
end
section
/-! counts, sums, and systems of least costs in general: rules r with a target t r and a cost val r m by the costs m so far -/
def nr_cnt (p : Nat → Bool) : Nat → Nat
  | 0 => 0
  | n + 1 => nr_cnt p n + (if p n = true then 1 else 0)
theorem nr_cnt_le (p : Nat → Bool) (n : Nat) : nr_cnt p n ≤ n := by
  induction n with
  | zero => exact Nat.le_refl 0
  | succ n ih => simp only [nr_cnt]; split <;> omega
theorem nr_cnt_mono {p q : Nat → Bool} {n : Nat} (h : ∀ i, i < n → p i = true → q i = true) : nr_cnt p n ≤ nr_cnt q n := by
  induction n with
  | zero => exact Nat.le_refl 0
  | succ n ih =>
    have ih := ih (fun i hi => h i (by omega))
    have hn := h n (by omega)
    simp only [nr_cnt]
    by_cases a : p n = true
    · rw [if_pos a, if_pos (hn a)]; omega
    · rw [if_neg a]; omega
theorem nr_cnt_lt {p q : Nat → Bool} {n c : Nat} (hc : c < n) (h : ∀ i, i < n → p i = true → q i = true) (hp : ¬ p c = true) (hq : q c = true) : nr_cnt p n < nr_cnt q n := by
  induction n with
  | zero => omega
  | succ n ih =>
    simp only [nr_cnt]
    by_cases e : c = n
    · have h1 := nr_cnt_mono (p := p) (q := q) (n := n) (fun i hi => h i (by omega))
      rw [e] at hp hq
      rw [if_neg hp, if_pos hq]; omega
    · have ih := ih (by omega) (fun i hi => h i (by omega))
      have hn := h n (by omega)
      by_cases a : p n = true
      · rw [if_pos a, if_pos (hn a)]; omega
      · rw [if_neg a]; omega
theorem nr_cnt_all {p : Nat → Bool} {n : Nat} (h : n ≤ nr_cnt p n) : ∀ i, i < n → p i = true := by
  intro i hi
  by_cases a : p i = true
  · exact a
  · have h1 := nr_cnt_lt (p := p) (q := fun _ => true) hi (fun _ _ _ => rfl) a rfl
    have h2 := nr_cnt_le (fun _ => true) n
    omega
theorem nr_cnt_eq {p q : Nat → Bool} {n : Nat} (h : ∀ i, i < n → p i = q i) : nr_cnt p n = nr_cnt q n :=
  Nat.le_antisymm (nr_cnt_mono (fun i hi z => by rw [← h i hi]; exact z)) (nr_cnt_mono (fun i hi z => by rw [h i hi]; exact z))
def nr_sum (m : Nat → Nat) : Nat → Nat
  | 0 => 0
  | n + 1 => nr_sum m n + m n
theorem nr_sum_le {m m' : Nat → Nat} {n : Nat} (h : ∀ i, i < n → m' i ≤ m i) : nr_sum m' n ≤ nr_sum m n := by
  induction n with
  | zero => exact Nat.le_refl 0
  | succ n ih =>
    have ih := ih (fun i hi => h i (by omega))
    have hn := h n (by omega)
    simp only [nr_sum]; omega
theorem nr_sum_lt {m m' : Nat → Nat} {n c : Nat} (hc : c < n) (h : ∀ i, i < n → m' i ≤ m i) (hl : m' c < m c) : nr_sum m' n < nr_sum m n := by
  induction n with
  | zero => omega
  | succ n ih =>
    simp only [nr_sum]
    by_cases e : c = n
    · have h1 := nr_sum_le (m := m) (m' := m') (n := n) (fun i hi => h i (by omega))
      rw [e] at hl
      omega
    · have ih := ih (by omega) (fun i hi => h i (by omega))
      have hn := h n (by omega)
      omega
def nr_up (m : Nat → Nat) (c v : Nat) : Nat → Nat := fun i => if i = c then v else m i
theorem nr_up_s {m : Nat → Nat} {c v : Nat} : nr_up m c v c = v := if_pos rfl
theorem nr_up_n {m : Nat → Nat} {c v i : Nat} (h : i ≠ c) : nr_up m c v i = m i := if_neg h
theorem nr_up_le {m : Nat → Nat} {c v : Nat} (h : v ≤ m c) (i : Nat) : nr_up m c v i ≤ m i := by
  by_cases e : i = c
  · rw [e, nr_up_s]; exact h
  · rw [nr_up_n e]; exact Nat.le_refl _
def nr_MON {ρ : Type} (N : Nat) (E : ρ → Prop) (val : ρ → (Nat → Nat) → Nat) : Prop := ∀ r, E r → ∀ m m' : Nat → Nat, (∀ i, i < N → m i ≤ m' i) → val r m ≤ val r m'
def nr_SUP {ρ : Type} (N : Nat) (E : ρ → Prop) (val : ρ → (Nat → Nat) → Nat) : Prop := ∀ r, E r → ∀ m m' : Nat → Nat, val r m < 1000 → (∀ i, i < N → m i < val r m → m' i ≤ m i) → val r m' ≤ val r m
def nr_CLO {ρ : Type} (E : ρ → Prop) (t : ρ → Nat) (val : ρ → (Nat → Nat) → Nat) (m : Nat → Nat) : Prop := ∀ r, E r → m (t r) ≤ val r m
def nr_JUS {ρ : Type} (N : Nat) (E : ρ → Prop) (t : ρ → Nat) (val : ρ → (Nat → Nat) → Nat) (m : Nat → Nat) : Prop := ∀ i, i < N → m i < 1000 → ∃ r, E r ∧ t r = i ∧ val r m ≤ m i
def nr_FIX {ρ : Type} (N : Nat) (E : ρ → Prop) (t : ρ → Nat) (val : ρ → (Nat → Nat) → Nat) (m : Nat → Nat) : Prop := (∀ i, i < N → m i ≤ 1000) ∧ nr_CLO E t val m ∧ nr_JUS N E t val m
theorem nr_cmp {ρ : Type} {N : Nat} {E E' : ρ → Prop} {t : ρ → Nat} {val : ρ → (Nat → Nat) → Nat} (hS : nr_SUP N E' val) (hE : ∀ r, E r → E' r) {m m' : Nat → Nat} (hJ : nr_JUS N E t val m) (hC : nr_CLO E' t val m') : ∀ v i, i < N → m i = v → v < 1000 → m' i ≤ v := by
  intro v
  induction v using Nat.strongRecOn with
  | _ v ih =>
    intro i hi hv h1
    obtain ⟨r, hr, ht, hl⟩ := hJ i hi (by omega)
    have h2 := hS r (hE r hr) m m' (by omega) (fun j hj hjv => ih (m j) (by omega) j hj rfl (by omega))
    have h3 := hC r (hE r hr)
    rw [ht] at h3
    omega
theorem nr_less {ρ : Type} {N : Nat} {E E' : ρ → Prop} {t : ρ → Nat} {val : ρ → (Nat → Nat) → Nat} (hS : nr_SUP N E' val) (hE : ∀ r, E r → E' r) {m m' : Nat → Nat} (hF : nr_FIX N E t val m) (hF' : nr_FIX N E' t val m') : ∀ i, i < N → m' i ≤ m i := by
  intro i hi
  by_cases h : m i < 1000
  · exact nr_cmp hS hE hF.2.2 hF'.2.1 (m i) i hi rfl h
  · have := hF'.1 i hi
    omega
theorem nr_uniq {ρ : Type} {N : Nat} {E : ρ → Prop} {t : ρ → Nat} {val : ρ → (Nat → Nat) → Nat} (hS : nr_SUP N E val) {m m' : Nat → Nat} (hF : nr_FIX N E t val m) (hF' : nr_FIX N E t val m') : ∀ i, i < N → m' i = m i :=
  fun i hi => Nat.le_antisymm (nr_less hS (fun _ h => h) hF hF' i hi) (nr_less hS (fun _ h => h) hF' hF i hi)
theorem nr_ex {ρ : Type} {N : Nat} {E : ρ → Prop} {t : ρ → Nat} {val : ρ → (Nat → Nat) → Nat} (hM : nr_MON N E val) (ht : ∀ r, E r → t r < N) : ∃ F, nr_FIX N E t val F := by
  have key : ∀ s m, nr_sum m N = s → (∀ i, m i ≤ 1000) → nr_JUS N E t val m → ∃ F, nr_FIX N E t val F := by
    intro s
    induction s using Nat.strongRecOn with
    | _ s ih =>
      intro m hs hm hJ
      by_cases hC : nr_CLO E t val m
      · exact ⟨m, fun i _ => hm i, hC, hJ⟩
      · have ⟨r, hr, hlt⟩ : ∃ r, E r ∧ val r m < m (t r) := by
          apply Classical.byContradiction
          intro hn
          exact hC (fun r hr => Nat.not_lt.mp (fun h => hn ⟨r, hr, h⟩))
        have hle : ∀ i, nr_up m (t r) (val r m) i ≤ m i := nr_up_le (Nat.le_of_lt hlt)
        refine ih (nr_sum (nr_up m (t r) (val r m)) N) (by rw [← hs]; exact nr_sum_lt (ht r hr) (fun i _ => hle i) (by rw [nr_up_s]; exact hlt)) _ rfl (fun i => Nat.le_trans (hle i) (hm i)) ?_
        intro i hi hi2
        by_cases e : i = t r
        · refine ⟨r, hr, e.symm, ?_⟩
          have h4 := hM r hr _ m (fun j _ => hle j)
          rw [e, nr_up_s]; exact h4
        · have e2 : nr_up m (t r) (val r m) i = m i := nr_up_n e
          obtain ⟨r', h1, h2, h3⟩ := hJ i hi (by rw [← e2]; exact hi2)
          refine ⟨r', h1, h2, ?_⟩
          rw [e2]; exact Nat.le_trans (hM r' h1 _ m (fun j _ => hle j)) h3
  exact key _ (fun _ => 1000) rfl (fun _ => Nat.le_refl _) (fun i _ h => absurd h (Nat.lt_irrefl 1000))
/-! cells settled in the order of their costs -/
def nr_msk (s : Nat → Bool) (m : Nat → Nat) : Nat → Nat := fun i => if s i = true then m i else 1000
theorem nr_msk_t {s : Nat → Bool} {m : Nat → Nat} {i : Nat} (h : s i = true) : nr_msk s m i = m i := if_pos h
theorem nr_msk_f {s : Nat → Bool} {m : Nat → Nat} {i : Nat} (h : ¬ s i = true) : nr_msk s m i = 1000 := if_neg h
def nr_DIN {ρ : Type} (N : Nat) (E : ρ → Prop) (t : ρ → Nat) (val : ρ → (Nat → Nat) → Nat) (m : Nat → Nat) (s : Nat → Bool) : Prop :=
  (∀ i, i < N → m i ≤ 1000) ∧ (∀ i, i < N → s i = true → m i < 1000) ∧ (∀ i j, i < N → j < N → s i = true → ¬ s j = true → m i ≤ m j) ∧ (∀ r, E r → m (t r) ≤ val r (nr_msk s m)) ∧ (∀ i, i < N → m i < 1000 → ∃ r, E r ∧ t r = i ∧ val r (nr_msk s m) ≤ m i)
theorem nr_step {ρ : Type} {N : Nat} {E : ρ → Prop} {t : ρ → Nat} {val : ρ → (Nat → Nat) → Nat} (hM : nr_MON N E val) {m m' : Nat → Nat} {s s' : Nat → Bool} {c : Nat} (hD : nr_DIN N E t val m s) (hc : c < N) (hcs : ¬ s c = true) (hc1 : m c < 1000) (hmin : ∀ j, j < N → ¬ s j = true → m c ≤ m j)
    (hs : ∀ i, i < N → (s' i = true ↔ s i = true ∨ i = c)) (h1 : ∀ i, i < N → m' i ≤ m i)
    (h2 : ∀ i, i < N → m' i = m i ∨ (m c < m' i ∧ ∃ r, E r ∧ t r = i ∧ val r (nr_msk s' m) ≤ m' i))
    (h3 : ∀ r, E r → m' (t r) ≤ val r (nr_msk s' m)) : nr_DIN N E t val m' s' := by
  obtain ⟨d1, d2, d3, d4, d5⟩ := hD
  have le : ∀ i, i < N → s' i = true → m i ≤ m c := by
    intro i hi z
    rcases (hs i hi).mp z with z | z
    · exact d3 i c hi hc z hcs
    · rw [z]; exact Nat.le_refl _
  have eq : ∀ i, i < N → s' i = true → m' i = m i := by
    intro i hi z
    rcases h2 i hi with e | ⟨e, _⟩
    · exact e
    · have h4 := h1 i hi
      have h5 := le i hi z
      omega
  have me : ∀ i, i < N → nr_msk s' m' i = nr_msk s' m i := by
    intro i hi
    by_cases z : s' i = true
    · rw [nr_msk_t z, nr_msk_t z, eq i hi z]
    · rw [nr_msk_f z, nr_msk_f z]
  have ve : ∀ r, E r → val r (nr_msk s' m') = val r (nr_msk s' m) := fun r hr =>
    Nat.le_antisymm (hM r hr _ _ (fun i hi => Nat.le_of_eq (me i hi))) (hM r hr _ _ (fun i hi => Nat.le_of_eq (me i hi).symm))
  have ms : ∀ i, i < N → nr_msk s' m i ≤ nr_msk s m i := by
    intro i hi
    by_cases z : s i = true
    · rw [nr_msk_t z, nr_msk_t ((hs i hi).mpr (Or.inl z))]; exact Nat.le_refl _
    · rw [nr_msk_f z]
      by_cases z' : s' i = true
      · rw [nr_msk_t z']; exact d1 i hi
      · rw [nr_msk_f z']; exact Nat.le_refl _
  refine ⟨fun i hi => Nat.le_trans (h1 i hi) (d1 i hi), ?_, ?_, ?_, ?_⟩
  · intro i hi z
    have h4 := le i hi z
    rw [eq i hi z]; omega
  · intro i j hi hj z zj
    have h4 := le i hi z
    rw [eq i hi z]
    have h5 : ¬ s j = true := fun w => zj ((hs j hj).mpr (Or.inl w))
    have h6 := hmin j hj h5
    rcases h2 j hj with e | ⟨e, _⟩
    · omega
    · omega
  · intro r hr
    rw [ve r hr]; exact h3 r hr
  · intro i hi hl
    rcases h2 i hi with e | ⟨_, r, hr, htr, hv⟩
    · obtain ⟨r, hr, htr, hv⟩ := d5 i hi (by omega)
      refine ⟨r, hr, htr, ?_⟩
      rw [ve r hr, e]
      exact Nat.le_trans (hM r hr _ _ ms) hv
    · exact ⟨r, hr, htr, by rw [ve r hr]; exact hv⟩
theorem nr_end {ρ : Type} {N : Nat} {E : ρ → Prop} {t : ρ → Nat} {val : ρ → (Nat → Nat) → Nat} (hM : nr_MON N E val) {m : Nat → Nat} {s : Nat → Bool} (hD : nr_DIN N E t val m s) (ha : ∀ i, i < N → s i = true ∨ 1000 ≤ m i) : nr_FIX N E t val m := by
  obtain ⟨d1, d2, d3, d4, d5⟩ := hD
  have me : ∀ i, i < N → nr_msk s m i = m i := by
    intro i hi
    by_cases z : s i = true
    · exact nr_msk_t z
    · rw [nr_msk_f z]
      have h1 := d1 i hi
      rcases ha i hi with h | h
      · exact absurd h z
      · omega
  have ve : ∀ r, E r → val r (nr_msk s m) = val r m := fun r hr =>
    Nat.le_antisymm (hM r hr _ _ (fun i hi => Nat.le_of_eq (me i hi))) (hM r hr _ _ (fun i hi => Nat.le_of_eq (me i hi).symm))
  refine ⟨d1, fun r hr => by rw [← ve r hr]; exact d4 r hr, fun i hi hl => ?_⟩
  obtain ⟨r, hr, htr, hv⟩ := d5 i hi hl
  exact ⟨r, hr, htr, by rw [← ve r hr]; exact hv⟩
/-! passes over all rules -/
def nr_rk (N : Nat) (F : Nat → Nat) (i : Nat) : Nat := nr_cnt (fun j => decide (F j < F i)) N
theorem nr_rk_lt {N : Nat} {F : Nat → Nat} {i j : Nat} (hj : j < N) (h : F j < F i) : nr_rk N F j < nr_rk N F i := by
  refine nr_cnt_lt hj (fun q _ z => ?_) ?_ (decide_eq_true h)
  · have := of_decide_eq_true z
    exact decide_eq_true (by omega)
  · intro z
    have := of_decide_eq_true z
    omega
theorem nr_rk_N {N : Nat} {F : Nat → Nat} {i : Nat} (hi : i < N) : nr_rk N F i < N := by
  have h1 := nr_cnt_lt (p := fun j => decide (F j < F i)) (q := fun _ => true) hi (fun _ _ _ => rfl) (fun z => by have := of_decide_eq_true z; omega) rfl
  have h2 := nr_cnt_le (fun _ => true) N
  unfold nr_rk; omega
def nr_PB (N : Nat) (F : Nat → Nat) (k : Nat) (m : Nat → Nat) : Prop := (∀ i, i < N → F i ≤ m i ∧ m i ≤ 1000) ∧ (∀ i, i < N → nr_rk N F i < k → m i = F i)
def nr_PP {ρ : Type} (N : Nat) (t : ρ → Nat) (val : ρ → (Nat → Nat) → Nat) (F : Nat → Nat) (k : Nat) (m : Nat → Nat) (r : ρ) : Prop := F (t r) < 1000 → nr_rk N F (t r) ≤ k → val r F ≤ F (t r) → m (t r) ≤ F (t r)
theorem nr_low {ρ : Type} {N : Nat} {E : ρ → Prop} {t : ρ → Nat} {val : ρ → (Nat → Nat) → Nat} (hM : nr_MON N E val) (hS : nr_SUP N E val) {F m : Nat → Nat} {k : Nat} (hF : nr_FIX N E t val F) (hP : nr_PB N F k m) {r : ρ} (hr : E r) :
    F (t r) ≤ val r m ∧ (F (t r) < 1000 → nr_rk N F (t r) ≤ k → val r F ≤ F (t r) → val r m ≤ F (t r)) := by
  refine ⟨Nat.le_trans (hF.2.1 r hr) (hM r hr F m (fun i hi => (hP.1 i hi).1)), fun h1 h2 h3 => ?_⟩
  refine Nat.le_trans (hS r hr F m (by omega) (fun i hi hl => ?_)) h3
  have h4 := nr_rk_lt (N := N) (F := F) (i := t r) hi (by omega)
  exact Nat.le_of_eq (hP.2 i hi (by omega))
theorem nr_PB_up {ρ : Type} {N : Nat} {E : ρ → Prop} {t : ρ → Nat} {val : ρ → (Nat → Nat) → Nat} (hM : nr_MON N E val) (hS : nr_SUP N E val) {F m : Nat → Nat} {k : Nat} (hF : nr_FIX N E t val F) (hP : nr_PB N F k m) {r : ρ} (hr : E r) (hl : val r m ≤ m (t r)) :
    nr_PB N F k (nr_up m (t r) (val r m)) := by
  have h1 := (nr_low hM hS hF hP hr).1
  have b : ∀ i, i < N → F i ≤ nr_up m (t r) (val r m) i ∧ nr_up m (t r) (val r m) i ≤ 1000 := by
    intro i hi
    have h2 := hP.1 i hi
    by_cases e : i = t r
    · rw [e] at h2 ⊢
      rw [nr_up_s]; omega
    · rw [nr_up_n e]; exact h2
  refine ⟨b, fun i hi hk => ?_⟩
  have h2 := hP.2 i hi hk
  have h3 := nr_up_le hl i
  have h4 := (b i hi).1
  omega
theorem nr_PP_le {ρ : Type} {N : Nat} {t : ρ → Nat} {val : ρ → (Nat → Nat) → Nat} {F m m' : Nat → Nat} {k : Nat} {r : ρ} (h : nr_PP N t val F k m r) (hl : m' (t r) ≤ m (t r)) : nr_PP N t val F k m' r :=
  fun a b c => Nat.le_trans hl (h a b c)
theorem nr_pass {ρ : Type} {N : Nat} {E : ρ → Prop} {t : ρ → Nat} {val : ρ → (Nat → Nat) → Nat} {F m : Nat → Nat} {k : Nat} (hF : nr_FIX N E t val F) (hP : nr_PB N F k m) (ha : ∀ r, E r → nr_PP N t val F k m r) : nr_PB N F (k + 1) m := by
  refine ⟨hP.1, fun i hi hk => ?_⟩
  have h1 := hP.1 i hi
  by_cases h : F i < 1000
  · obtain ⟨r, hr, htr, hv⟩ := hF.2.2 i hi h
    have h2 := ha r hr
    unfold nr_PP at h2
    rw [htr] at h2
    have h3 := h2 h (by omega) hv
    omega
  · omega
theorem nr_PB_all {N : Nat} {F m : Nat → Nat} {k : Nat} (hP : nr_PB N F k m) (hk : N ≤ k) : ∀ i, i < N → m i = F i :=
  fun i hi => hP.2 i hi (Nat.lt_of_lt_of_le (nr_rk_N hi) hk)
theorem nr_PB_clo {ρ : Type} {N : Nat} {E : ρ → Prop} {t : ρ → Nat} {val : ρ → (Nat → Nat) → Nat} (hS : nr_SUP N E val) {F m : Nat → Nat} {k : Nat} (hF : nr_FIX N E t val F) (hP : nr_PB N F k m) (hC : nr_CLO E t val m) : ∀ i, i < N → m i = F i := by
  intro i hi
  have h1 := hP.1 i hi
  by_cases h : F i < 1000
  · have h2 := nr_cmp hS (fun _ z => z) hF.2.2 hC (F i) i hi rfl h
    omega
  · omega
theorem nr_PB_0 {ρ : Type} {N : Nat} {E : ρ → Prop} {t : ρ → Nat} {val : ρ → (Nat → Nat) → Nat} {F m : Nat → Nat} (hF : nr_FIX N E t val F) (hm : ∀ i, i < N → m i = 1000) : nr_PB N F 0 m :=
  ⟨fun i hi => by have := hF.1 i hi; have := hm i hi; omega, fun i hi h => absurd h (by omega)⟩
end
section
/-! the system of the names: cells, what a subject denotes, its rules -/
def nr_cell (k d x : Nat) : Nat := k * 18 + d * 6 + x
theorem nr_cell_lt {k d x : Nat} (hk : k < 6) (hd : d < 3) (hx : x < 6) : nr_cell k d x < 108 := by unfold nr_cell; omega
theorem nr_cell_inj {k d x k' d' x' : Nat} (hd : d < 3) (hx : x < 6) (hd' : d' < 3) (hx' : x' < 6) (h : nr_cell k d x = nr_cell k' d' x') : k = k' ∧ d = d' ∧ x = x' := by unfold nr_cell at h; omega
theorem nr_cell_x {k d x : Nat} (hx : x < 6) : nr_cell k d x % 6 = x := by unfold nr_cell; omega
theorem nr_cell_of {c : Nat} (hc : c < 108) : nr_cell (c / 18) (c % 18 / 6) (c % 6) = c ∧ c / 18 < 6 ∧ c % 18 / 6 < 3 ∧ c % 6 < 6 := by unfold nr_cell; omega
def nr_mq (f : Nat → Nat) : Nat → Nat
  | 0 => 1000
  | k + 1 => min (nr_mq f k) (f k)
theorem nr_mq_1000 (f : Nat → Nat) (k : Nat) : nr_mq f k ≤ 1000 := by
  induction k with
  | zero => exact Nat.le_refl _
  | succ k ih => simp only [nr_mq]; omega
theorem nr_mq_le {f : Nat → Nat} {k q : Nat} (hq : q < k) : nr_mq f k ≤ f q := by
  induction k with
  | zero => omega
  | succ k ih =>
    simp only [nr_mq]
    by_cases e : q = k
    · rw [e]; omega
    · have := ih (by omega); omega
theorem nr_mq_ex {f : Nat → Nat} {k : Nat} (h : nr_mq f k < 1000) : ∃ q, q < k ∧ nr_mq f k = f q := by
  induction k with
  | zero => simp only [nr_mq] at h; omega
  | succ k ih =>
    simp only [nr_mq] at h ⊢
    by_cases e : nr_mq f k ≤ f k
    · obtain ⟨q, hq, hv⟩ := ih (by omega)
      exact ⟨q, by omega, by omega⟩
    · exact ⟨k, by omega, by omega⟩
theorem nr_le_mq {f : Nat → Nat} {k b : Nat} (hb : b ≤ 1000) (h : ∀ q, q < k → b ≤ f q) : b ≤ nr_mq f k := by
  induction k with
  | zero => exact hb
  | succ k ih =>
    have h1 := ih (fun q hq => h q (by omega))
    have h2 := h k (by omega)
    simp only [nr_mq]; omega
theorem nr_mq_mon {f g : Nat → Nat} {k : Nat} (h : ∀ q, q < k → f q ≤ g q) : nr_mq f k ≤ nr_mq g k :=
  nr_le_mq (nr_mq_1000 f k) (fun q hq => Nat.le_trans (nr_mq_le hq) (h q hq))
theorem nr_mq_cut {f : Nat → Nat} {k l : Nat} (hl : k ≤ l) (h : ∀ q, k ≤ q → q < l → 1000 ≤ f q) : nr_mq f k = nr_mq f l := by
  refine Nat.le_antisymm (nr_le_mq (nr_mq_1000 f k) (fun q hq => ?_)) (nr_le_mq (nr_mq_1000 f l) (fun q hq => nr_mq_le (by omega)))
  by_cases e : q < k
  · exact nr_mq_le e
  · have h1 := h q (by omega) hq
    have h2 := nr_mq_1000 f k
    omega
def nr_sh (m : Nat → Nat) (p a x : Nat) : Nat :=
  if a = 0 then (if p = x then 0 else 1000) else if a ≤ 3 then m (nr_cell p (a - 1) x) else nr_mq (fun q => m (nr_cell p ((a - 4) / 3) q) + m (nr_cell q ((a - 4) % 3) x)) 6
theorem nr_sh_0 {m : Nat → Nat} {p a x : Nat} (h : a = 0) : nr_sh m p a x = if p = x then 0 else 1000 := if_pos h
theorem nr_sh_1 {m : Nat → Nat} {p a x : Nat} (h : 0 < a) (h3 : a ≤ 3) : nr_sh m p a x = m (nr_cell p (a - 1) x) := by
  unfold nr_sh; rw [if_neg (by omega), if_pos h3]
theorem nr_sh_2 {m : Nat → Nat} {p a x : Nat} (h3 : 3 < a) : nr_sh m p a x = nr_mq (fun q => m (nr_cell p ((a - 4) / 3) q) + m (nr_cell q ((a - 4) % 3) x)) 6 := by
  unfold nr_sh; rw [if_neg (by omega), if_neg (by omega)]
theorem nr_sh_le {m : Nat → Nat} {p a x : Nat} (hp : p < 6) (ha : a ≤ 12) (hx : x < 6) (hm : ∀ i, i < 108 → m i ≤ 1000) : nr_sh m p a x ≤ 1000 := by
  by_cases h0 : a = 0
  · rw [nr_sh_0 h0]; split <;> omega
  · by_cases h3 : a ≤ 3
    · rw [nr_sh_1 (by omega) h3]; exact hm _ (nr_cell_lt hp (by omega) hx)
    · rw [nr_sh_2 (by omega)]; exact nr_mq_1000 _ _
theorem nr_sh_mon {m m' : Nat → Nat} {p a x : Nat} (hp : p < 6) (ha : a ≤ 12) (hx : x < 6) (hm : ∀ i, i < 108 → m i ≤ m' i) : nr_sh m p a x ≤ nr_sh m' p a x := by
  by_cases h0 : a = 0
  · rw [nr_sh_0 h0, nr_sh_0 h0]; exact Nat.le_refl _
  · by_cases h3 : a ≤ 3
    · rw [nr_sh_1 (by omega) h3, nr_sh_1 (by omega) h3]; exact hm _ (nr_cell_lt hp (by omega) hx)
    · rw [nr_sh_2 (by omega), nr_sh_2 (by omega)]
      exact nr_mq_mon (fun q hq => Nat.add_le_add (hm _ (nr_cell_lt hp (by omega) hq)) (hm _ (nr_cell_lt hq (by omega) hx)))
theorem nr_sh_sup {m m' : Nat → Nat} {p a x v : Nat} (hp : p < 6) (ha : a ≤ 12) (hx : x < 6) (hv : v ≤ 1000) (hl : nr_sh m p a x < v) (hm : ∀ i, i < 108 → m i < v → m' i ≤ m i) : nr_sh m' p a x ≤ nr_sh m p a x := by
  by_cases h0 : a = 0
  · rw [nr_sh_0 h0, nr_sh_0 h0]; exact Nat.le_refl _
  · by_cases h3 : a ≤ 3
    · rw [nr_sh_1 (by omega) h3] at hl
      rw [nr_sh_1 (by omega) h3, nr_sh_1 (by omega) h3]; exact hm _ (nr_cell_lt hp (by omega) hx) hl
    · rw [nr_sh_2 (by omega)] at hl
      rw [nr_sh_2 (by omega), nr_sh_2 (by omega)]
      obtain ⟨q, hq, e⟩ := nr_mq_ex (Nat.lt_of_lt_of_le hl hv)
      rw [e] at hl ⊢
      refine Nat.le_trans (nr_mq_le hq) ?_
      have h1 := hm (nr_cell p ((a - 4) / 3) q) (nr_cell_lt hp (by omega) hq) (by omega)
      have h2 := hm (nr_cell q ((a - 4) % 3) x) (nr_cell_lt hq (by omega) hx) (by omega)
      omega
def nr_CF (n : Nat) (W D P A : Nat → Nat) : Prop := 1 ≤ n ∧ n ≤ 6 ∧ ∀ i, i < 10 → W i < n ∧ D i < 3 ∧ P i < n ∧ A i ≤ 12
def nr_E (n : Nat) (T : Nat → Prop) (r : Nat × Nat) : Prop := r.1 < 10 ∧ T r.1 ∧ r.2 < n
def nr_t (W D : Nat → Nat) (r : Nat × Nat) : Nat := nr_cell (W r.1) (D r.1) r.2
def nr_v (P A : Nat → Nat) (r : Nat × Nat) (m : Nat → Nat) : Nat := 1 + nr_sh m (P r.1) (A r.1) r.2
def nr_FN (n : Nat) (T : Nat → Prop) (W D P A : Nat → Nat) (F : Nat → Nat) : Prop := nr_FIX 108 (nr_E n T) (nr_t W D) (nr_v P A) F
theorem nr_MN {n : Nat} {T : Nat → Prop} {W D P A : Nat → Nat} (hc : nr_CF n W D P A) : nr_MON 108 (nr_E n T) (nr_v P A) := by
  intro r hr m m' hm
  obtain ⟨h1, h6, hb⟩ := hc
  obtain ⟨r1, r2, r3⟩ := hr
  have := hb r.1 r1
  exact Nat.add_le_add_left (nr_sh_mon (by omega) (by omega) (by omega) hm) 1
theorem nr_SN {n : Nat} {T : Nat → Prop} {W D P A : Nat → Nat} (hc : nr_CF n W D P A) : nr_SUP 108 (nr_E n T) (nr_v P A) := by
  intro r hr m m' hv hm
  obtain ⟨h1, h6, hb⟩ := hc
  obtain ⟨r1, r2, r3⟩ := hr
  have := hb r.1 r1
  unfold nr_v at hv hm ⊢
  exact Nat.add_le_add_left (nr_sh_sup (v := 1 + nr_sh m (P r.1) (A r.1) r.2) (by omega) (by omega) (by omega) (by omega) (by omega) hm) 1
theorem nr_tN {n : Nat} {T : Nat → Prop} {W D P A : Nat → Nat} (hc : nr_CF n W D P A) : ∀ r, nr_E n T r → nr_t W D r < 108 := by
  intro r hr
  obtain ⟨h1, h6, hb⟩ := hc
  obtain ⟨r1, r2, r3⟩ := hr
  have := hb r.1 r1
  exact nr_cell_lt (by omega) (by omega) (by omega)
theorem nr_FN_ex {n : Nat} {T : Nat → Prop} {W D P A : Nat → Nat} (hc : nr_CF n W D P A) : ∃ F, nr_FN n T W D P A F := nr_ex (nr_MN hc) (nr_tN hc)
theorem nr_FN_1 {n : Nat} {T : Nat → Prop} {W D P A F F' : Nat → Nat} (hc : nr_CF n W D P A) (h : nr_FN n T W D P A F) (h' : nr_FN n T W D P A F') : ∀ i, i < 108 → F' i = F i := nr_uniq (nr_SN hc) h h'
theorem nr_FN_hi {n : Nat} {T : Nat → Prop} {W D P A F : Nat → Nat} (hc : nr_CF n W D P A) (h : nr_FN n T W D P A F) {i : Nat} (hi : i < 108) (hx : n ≤ i % 6) : F i = 1000 := by
  have h1 := h.1 i hi
  by_cases z : F i < 1000
  · obtain ⟨r, hr, ht, _⟩ := h.2.2 i hi z
    obtain ⟨c1, c6, cb⟩ := hc
    obtain ⟨r1, r2, r3⟩ := hr
    have h2 : nr_t W D r % 6 = r.2 := nr_cell_x (by omega)
    rw [ht] at h2
    omega
  · omega
/-! offers -/
def nr_OF (m m' : Nat → Nat) (S : Nat → Nat → Prop) : Prop := (∀ i, m' i ≤ m i) ∧ (∀ i, m' i = m i ∨ S i (m' i)) ∧ (∀ i v, S i v → m' i ≤ v)
def nr_of (m : Nat → Nat) (c v : Nat) : Nat → Nat := if v < m c then nr_up m c v else m
theorem nr_OF_0 (m : Nat → Nat) {S : Nat → Nat → Prop} (h : ∀ i v, ¬ S i v) : nr_OF m m S := ⟨fun _ => Nat.le_refl _, fun _ => Or.inl rfl, fun i v z => absurd z (h i v)⟩
theorem nr_OF_of {m m1 : Nat → Nat} {S S' : Nat → Nat → Prop} {c v : Nat} (h : nr_OF m m1 S) (hS : ∀ i w, S' i w ↔ S i w ∨ (i = c ∧ w = v)) : nr_OF m (nr_of m1 c v) S' := by
  obtain ⟨h1, h2, h3⟩ := h
  have le : ∀ i, nr_of m1 c v i ≤ m1 i := by
    intro i
    unfold nr_of
    by_cases z : v < m1 c
    · rw [if_pos z]; exact nr_up_le (by omega) i
    · rw [if_neg z]; exact Nat.le_refl _
  refine ⟨fun i => Nat.le_trans (le i) (h1 i), fun i => ?_, fun i w hw => ?_⟩
  · unfold nr_of
    by_cases z : v < m1 c
    · rw [if_pos z]
      by_cases e : i = c
      · right; rw [e, nr_up_s]; exact (hS _ _).mpr (Or.inr ⟨rfl, rfl⟩)
      · rw [nr_up_n e]
        rcases h2 i with g | g
        · exact Or.inl g
        · exact Or.inr ((hS _ _).mpr (Or.inl g))
    · rw [if_neg z]
      rcases h2 i with g | g
      · exact Or.inl g
      · exact Or.inr ((hS _ _).mpr (Or.inl g))
  · rcases (hS i w).mp hw with g | ⟨g1, g2⟩
    · exact Nat.le_trans (le i) (h3 i w g)
    · rw [g1, g2]
      unfold nr_of
      by_cases z : v < m1 c
      · rw [if_pos z, nr_up_s]; exact Nat.le_refl _
      · rw [if_neg z]; omega
theorem nr_OF_iff {m m1 : Nat → Nat} {S S' : Nat → Nat → Prop} (h : nr_OF m m1 S) (hS : ∀ i w, S' i w ↔ S i w) : nr_OF m m1 S' :=
  ⟨h.1, fun i => (h.2.1 i).elim Or.inl (fun g => Or.inr ((hS _ _).mpr g)), fun i v g => h.2.2 i v ((hS _ _).mp g)⟩
theorem nr_OF_keep {m m1 : Nat → Nat} {S : Nat → Nat → Prop} {μ i : Nat} (h : nr_OF m m1 S) (hS : ∀ i v, S i v → μ < v) (hi : m i ≤ μ) : m1 i = m i := by
  rcases h.2.1 i with g | g
  · exact g
  · have h1 := hS _ _ g
    have h2 := h.1 i
    omega
def nr_S1 (s : Nat → Bool) (m W D P A : Nat → Nat) (k d x μ id i v : Nat) : Prop :=
  (0 < A id ∧ A id ≤ 3 ∧ P id = k ∧ A id - 1 = d ∧ i = nr_cell (W id) (D id) x ∧ v = μ + 1)
  ∨ (3 < A id ∧ P id = k ∧ (A id - 4) / 3 = d ∧ ∃ y, y < 6 ∧ s (nr_cell x ((A id - 4) % 3) y) = true ∧ i = nr_cell (W id) (D id) y ∧ v = μ + m (nr_cell x ((A id - 4) % 3) y) + 1)
  ∨ (3 < A id ∧ (A id - 4) % 3 = d ∧ s (nr_cell (P id) ((A id - 4) / 3) k) = true ∧ i = nr_cell (W id) (D id) x ∧ v = μ + m (nr_cell (P id) ((A id - 4) / 3) k) + 1)
theorem nr_S1_gt {s : Nat → Bool} {m W D P A : Nat → Nat} {k d x μ id i v : Nat} (h : nr_S1 s m W D P A k d x μ id i v) : μ < v := by
  rcases h with ⟨_, _, _, _, _, h⟩ | ⟨_, _, _, y, _, _, _, h⟩ | ⟨_, _, _, _, h⟩ <;> omega
def nr_S (T : Nat → Prop) (s : Nat → Bool) (m W D P A : Nat → Nat) (k d x μ j i v : Nat) : Prop := ∃ id, id < j ∧ T id ∧ nr_S1 s m W D P A k d x μ id i v
theorem nr_spread {n : Nat} {T : Nat → Prop} {W D P A : Nat → Nat} (hc : nr_CF n W D P A) {m m' : Nat → Nat} {s s' : Nat → Bool} {k d x : Nat} (hk : k < 6) (hd : d < 3) (hx : x < 6) (hD : nr_DIN 108 (nr_E n T) (nr_t W D) (nr_v P A) m s)
    (hcs : ¬ s (nr_cell k d x) = true) (hc1 : m (nr_cell k d x) < 1000) (hmin : ∀ j, j < 108 → ¬ s j = true → m (nr_cell k d x) ≤ m j) (hs : ∀ i, i < 108 → (s' i = true ↔ s i = true ∨ i = nr_cell k d x))
    (hO : nr_OF m m' (nr_S T s' m W D P A k d x (m (nr_cell k d x)) 10)) : nr_DIN 108 (nr_E n T) (nr_t W D) (nr_v P A) m' s' := by
  have hcl := nr_cell_lt hk hd hx
  have hn6 := hc.2.1
  have hb := hc.2.2
  have lo : ∀ i, i < 108 → s' i = true → m i < 1000 := by
    intro i hi z
    rcases (hs i hi).mp z with z | z
    · exact hD.2.1 i hi z
    · rw [z]; exact hc1
  have lon : ∀ i, i < 108 → m i < 1000 → i % 6 < n := by
    intro i hi z
    obtain ⟨r, ⟨r1, r2, r3⟩, ht, _⟩ := hD.2.2.2.2 i hi z
    have h2 : nr_t W D r % 6 = r.2 := nr_cell_x (by omega)
    rw [ht] at h2
    omega
  have hxn : x < n := by
    have := lon _ hcl hc1
    rw [nr_cell_x hx] at this
    exact this
  have sc : s' (nr_cell k d x) = true := (hs _ hcl).mpr (Or.inr rfl)
  have old : ∀ i, i < 108 → i ≠ nr_cell k d x → nr_msk s' m i = nr_msk s m i := by
    intro i hi ne
    by_cases z : s i = true
    · rw [nr_msk_t z, nr_msk_t ((hs i hi).mpr (Or.inl z))]
    · rw [nr_msk_f z, nr_msk_f (fun w => ((hs i hi).mp w).elim z ne)]
  refine nr_step (nr_MN hc) hD hcl hcs hc1 hmin hs (fun i _ => hO.1 i) (fun i hi => ?_) (fun r hr => ?_)
  · rcases hO.2.1 i with g | g
    · exact Or.inl g
    · right
      obtain ⟨id, h10, hT, g⟩ := g
      refine ⟨nr_S1_gt g, ?_⟩
      have hbi := hb id h10
      rcases g with ⟨g1, g2, g3, g4, g5, g6⟩ | ⟨g1, g2, g3, y, gy, g4, g5, g6⟩ | ⟨g1, g2, g3, g4, g5⟩
      · refine ⟨(id, x), ⟨h10, hT, hxn⟩, g5.symm, ?_⟩
        rw [g6]
        show 1 + nr_sh _ (P id) (A id) x ≤ _
        rw [nr_sh_1 g1 g2, g3, g4, nr_msk_t sc]; omega
      · have hcy : nr_cell x ((A id - 4) % 3) y < 108 := nr_cell_lt hx (by omega) gy
        have hyn : y < n := by
          have := lon _ hcy (lo _ hcy g4)
          rw [nr_cell_x gy] at this
          exact this
        refine ⟨(id, y), ⟨h10, hT, hyn⟩, g5.symm, ?_⟩
        rw [g6]
        show 1 + nr_sh _ (P id) (A id) y ≤ _
        rw [nr_sh_2 g1]
        have h1 := nr_mq_le (f := fun q => nr_msk s' m (nr_cell (P id) ((A id - 4) / 3) q) + nr_msk s' m (nr_cell q ((A id - 4) % 3) y)) hx
        rw [nr_msk_t g4] at h1
        rw [g2, g3, nr_msk_t sc] at h1
        rw [g2, g3]
        omega
      · have hcy : nr_cell (P id) ((A id - 4) / 3) k < 108 := nr_cell_lt (by omega) (by omega) hk
        refine ⟨(id, x), ⟨h10, hT, hxn⟩, g4.symm, ?_⟩
        rw [g5]
        show 1 + nr_sh _ (P id) (A id) x ≤ _
        rw [nr_sh_2 g1]
        have h1 := nr_mq_le (f := fun q => nr_msk s' m (nr_cell (P id) ((A id - 4) / 3) q) + nr_msk s' m (nr_cell q ((A id - 4) % 3) x)) hk
        rw [nr_msk_t g3] at h1
        rw [g2, nr_msk_t sc] at h1
        rw [g2]
        omega
  · obtain ⟨id, y⟩ := r
    have r1 : id < 10 := hr.1
    have r2 : T id := hr.2.1
    have r3 : y < n := hr.2.2
    have hbi := hb id r1
    have hy : y < 6 := by omega
    have o4 := hD.2.2.2.1 (id, y) hr
    have o1 := hO.1 (nr_t W D (id, y))
    have o0 := hD.1 _ (nr_tN hc _ hr)
    have off : ∀ i v, nr_S1 s' m W D P A k d x (m (nr_cell k d x)) id i v → m' i ≤ v := fun i v g => hO.2.2 i v ⟨id, r1, r2, g⟩
    have o4 : m (nr_t W D (id, y)) ≤ 1 + nr_sh (nr_msk s m) (P id) (A id) y := o4
    show m' (nr_t W D (id, y)) ≤ 1 + nr_sh (nr_msk s' m) (P id) (A id) y
    by_cases h0 : A id = 0
    · rw [nr_sh_0 h0] at o4 ⊢; omega
    · by_cases h3 : A id ≤ 3
      · rw [nr_sh_1 (by omega) h3] at o4 ⊢
        have hcy : nr_cell (P id) (A id - 1) y < 108 := nr_cell_lt (by omega) (by omega) hy
        by_cases e : nr_cell (P id) (A id - 1) y = nr_cell k d x
        · obtain ⟨e1, e2, e3⟩ := nr_cell_inj (by omega) hy hd hx e
          rw [e, nr_msk_t sc]
          have := off (nr_t W D (id, y)) (m (nr_cell k d x) + 1) (Or.inl ⟨by omega, h3, e1, e2, by rw [e3]; rfl, rfl⟩)
          omega
        · rw [old _ hcy e]; omega
      · rw [nr_sh_2 (by omega)] at o4 ⊢
        have goal : ∀ q, q < 6 → m' (nr_t W D (id, y)) ≤ 1 + (nr_msk s' m (nr_cell (P id) ((A id - 4) / 3) q) + nr_msk s' m (nr_cell q ((A id - 4) % 3) y)) := by
          intro q hq
          have hc1' : nr_cell (P id) ((A id - 4) / 3) q < 108 := nr_cell_lt (by omega) (by omega) hq
          have hc2' : nr_cell q ((A id - 4) % 3) y < 108 := nr_cell_lt hq (by omega) hy
          by_cases e : nr_cell (P id) ((A id - 4) / 3) q = nr_cell k d x
          · obtain ⟨e1, e2, e3⟩ := nr_cell_inj (by omega) hq hd hx e
            by_cases z : s' (nr_cell q ((A id - 4) % 3) y) = true
            · have := off (nr_t W D (id, y)) (m (nr_cell k d x) + m (nr_cell x ((A id - 4) % 3) y) + 1) (Or.inr (Or.inl ⟨by omega, e1, e2, y, hy, by rw [← e3]; exact z, rfl, rfl⟩))
              rw [nr_msk_t z, e, nr_msk_t sc, e3]; omega
            · rw [nr_msk_f z]; omega
          · by_cases e' : nr_cell q ((A id - 4) % 3) y = nr_cell k d x
            · obtain ⟨e1, e2, e3⟩ := nr_cell_inj (by omega) hy hd hx e'
              by_cases z : s' (nr_cell (P id) ((A id - 4) / 3) q) = true
              · have := off (nr_t W D (id, y)) (m (nr_cell k d x) + m (nr_cell (P id) ((A id - 4) / 3) k) + 1) (Or.inr (Or.inr ⟨by omega, e2, by rw [← e1]; exact z, by rw [e3]; rfl, rfl⟩))
                rw [nr_msk_t z, e', nr_msk_t sc, e1]; omega
              · rw [nr_msk_f z]; omega
            · have h1 := nr_mq_le (f := fun q => nr_msk s m (nr_cell (P id) ((A id - 4) / 3) q) + nr_msk s m (nr_cell q ((A id - 4) % 3) y)) hq
              rw [old _ hc1' e, old _ hc2' e']
              omega
        have h5 : m' (nr_t W D (id, y)) - 1 ≤ nr_mq (fun q => nr_msk s' m (nr_cell (P id) ((A id - 4) / 3) q) + nr_msk s' m (nr_cell q ((A id - 4) % 3) y)) 6 :=
          nr_le_mq (by omega) (fun q hq => by have := goal q hq; omega)
        omega
/-! the first offers: certificates of the empty path -/
def nr_S0 (T : Nat → Prop) (W D P A : Nat → Nat) (j i v : Nat) : Prop := ∃ id, id < j ∧ T id ∧ A id = 0 ∧ i = nr_cell (W id) (D id) (P id) ∧ v = 1
theorem nr_first {n : Nat} {T : Nat → Prop} {W D P A : Nat → Nat} (hc : nr_CF n W D P A) {m m' : Nat → Nat} {s : Nat → Bool} (hs : ∀ i, i < 108 → ¬ s i = true) (hm : ∀ i, i < 108 → m i = 1000)
    (hO : nr_OF m m' (nr_S0 T W D P A 10)) : nr_DIN 108 (nr_E n T) (nr_t W D) (nr_v P A) m' s := by
  have hb := hc.2.2
  have hn6 := hc.2.1
  have m1 : ∀ i, i < 108 → m' i ≤ 1000 := fun i hi => by have := hO.1 i; have := hm i hi; omega
  refine ⟨m1, fun i hi z => absurd z (hs i hi), fun i j hi hj z _ => absurd z (hs i hi), fun r hr => ?_, fun i hi hl => ?_⟩
  · have h0 := m1 _ (nr_tN hc r hr)
    obtain ⟨id, y⟩ := r
    have r1 : id < 10 := hr.1
    have r2 : T id := hr.2.1
    have r3 : y < n := hr.2.2
    have hbi := hb id r1
    show m' (nr_t W D (id, y)) ≤ 1 + nr_sh (nr_msk s m') (P id) (A id) y
    by_cases a0 : A id = 0
    · rw [nr_sh_0 a0]
      by_cases e : P id = y
      · rw [if_pos e]
        exact hO.2.2 _ _ ⟨id, r1, r2, a0, by rw [e]; rfl, rfl⟩
      · rw [if_neg e]; omega
    · by_cases h3 : A id ≤ 3
      · rw [nr_sh_1 (by omega) h3, nr_msk_f (hs _ (nr_cell_lt (by omega) (by omega) (by omega)))]; omega
      · rw [nr_sh_2 (by omega)]
        have h5 : 1000 ≤ nr_mq (fun q => nr_msk s m' (nr_cell (P id) ((A id - 4) / 3) q) + nr_msk s m' (nr_cell q ((A id - 4) % 3) y)) 6 := by
          refine nr_le_mq (Nat.le_refl _) (fun q hq => ?_)
          rw [nr_msk_f (hs (nr_cell (P id) ((A id - 4) / 3) q) (nr_cell_lt (by omega) (by omega) (by omega)))]; omega
        omega
  · rcases hO.2.1 i with g | ⟨id, r1, r2, g1, g2, g3⟩
    · have := hm i hi; omega
    · have hbi := hb id r1
      refine ⟨(id, P id), ⟨r1, r2, hbi.2.2.1⟩, g2.symm, ?_⟩
      rw [g3]
      show 1 + nr_sh _ (P id) (A id) (P id) ≤ 1
      rw [nr_sh_0 g1, if_pos rfl]; exact Nat.le_refl _
end
section
/-! bits and numbers -/
theorem nr_b1 : ∀ i, i < 32 → bt 1 i = decide (i = 0) := by decide +kernel
theorem nr_bit (x : Int32) {j : Nat} (hj : j < 32) : ((x >>> (nI j &&& 31)) &&& 1) = 0 ↔ ¬ bt x j = true := by
  constructor
  · intro h
    have h0 : bt ((x >>> (nI j &&& 31)) &&& 1) 0 = bt 0 0 := by rw [h]
    rw [b_and, b_sshr j hj x (by omega), if_pos (by omega), b_0, nr_b1 0 (by omega)] at h0
    simpa using h0
  · intro h
    apply b_ext
    intro i hi
    rw [b_and, b_0, nr_b1 i hi]
    by_cases e : i = 0
    · subst e
      rw [b_sshr j hj x hi, if_pos (by omega)]
      simpa using h
    · simp [e]
theorem nr_bset (x : Int32) {j : Nat} (hj : j < 32) {i : Nat} (hi : i < 32) : bt (x ||| ((1 : Int32) <<< (nI j &&& 31))) i = true ↔ (bt x i = true ∨ i = j) := by
  rw [b_or, b_shl j hj 1 hi]
  by_cases e : j ≤ i
  · rw [nr_b1 (i - j) (by omega)]
    have : (i - j = 0) ↔ i = j := by omega
    simp [e, this]
  · have : ¬ i = j := by omega
    simp [e, this]
theorem nr_bclr (x : Int32) {j : Nat} (hj : j < 32) {i : Nat} (hi : i < 32) : bt (x &&& (((1 : Int32) <<< (nI j &&& 31)) ^^^ (-1))) i = true ↔ (bt x i = true ∧ i ≠ j) := by
  rw [b_and, b_xor, b_m1 i hi, b_shl j hj 1 hi]
  by_cases e : j ≤ i
  · rw [nr_b1 (i - j) (by omega)]
    have : (i - j = 0) ↔ i = j := by omega
    simp [e, this]
  · have : ¬ i = j := by omega
    simp [e, this]
theorem nr_bext {x y : Int32} (h : ∀ i, i < 32 → (bt x i = true ↔ bt y i = true)) : x = y :=
  b_ext (fun i hi => Bool.eq_iff_iff.mpr (h i hi))
def nr_e (v : Nat) : Nat := if v < 1000 then v else 1048576
theorem nr_e_lt {v : Nat} (h : v < 1000) : nr_e v = v := if_pos h
theorem nr_e_ge {v : Nat} (h : 1000 ≤ v) : nr_e v = 1048576 := if_neg (by omega)
theorem nr_e_b (v : Nat) : nr_e v ≤ 1048576 := by unfold nr_e; split <;> omega
theorem nr_e_far {v : Nat} : 1048576 ≤ nr_e v ↔ 1000 ≤ v := by unfold nr_e; split <;> omega
theorem nr_e_le {a b : Nat} (ha : a ≤ 1000) (hb : b ≤ 1000) : nr_e a ≤ nr_e b ↔ a ≤ b := by unfold nr_e; split <;> split <;> omega
theorem nr_ce (k d x : Nat) : ((nI k * 18) + (nI d * 6)) + nI x = nI (nr_cell k d x) := by
  show ((nI k * nI 18) + (nI d * nI 6)) + nI x = _
  rw [pk_mul, pk_mul, nI_add, nI_add]; rfl
theorem nr_cy (k d x : Nat) : (((nI k * 3) + nI d) * 6) + nI x = nI (nr_cell k d x) := by
  show (((nI k * nI 3) + nI d) * nI 6) + nI x = _
  rw [pk_mul, nI_add, pk_mul, nI_add]
  exact congrArg nI (by unfold nr_cell; omega)
theorem nr_cy1 (p a x : Nat) (h : 0 < a) : ((((nI p * 3) + nI a) - 1) * 6) + nI x = nI (nr_cell p (a - 1) x) := by
  show ((((nI p * nI 3) + nI a) - nI 1) * nI 6) + nI x = _
  rw [pk_mul, nI_add, pk_sub (by omega), pk_mul, nI_add]
  exact congrArg nI (by unfold nr_cell; omega)
def nr_CA (a : Nat → Int32) (m : Nat → Nat) : Prop := ∀ i, i < 108 → a i = nI (nr_e (m i)) ∧ m i ≤ 1000
theorem nr_CA_up {a : Nat → Int32} {m : Nat → Nat} {c v : Nat} (h : nr_CA a m) (hv : v < 1000) : nr_CA (upd a c (nI v)) (nr_up m c v) := by
  intro i hi
  by_cases e : i = c
  · rw [e, pk_us, nr_up_s, nr_e_lt hv]; exact ⟨rfl, by omega⟩
  · rw [pk_un e, nr_up_n e]; exact h i hi
theorem nr_CA_eq {a : Nat → Int32} {m m' : Nat → Nat} (h : nr_CA a m) (e : ∀ i, i < 108 → m i = m' i) : nr_CA a m' :=
  fun i hi => by rw [← e i hi]; exact h i hi
def nr_SA (a : Nat → Int32) (s : Nat → Bool) : Prop := ∀ i, i < 108 → (a i = 0 ↔ ¬ s i = true)
def nr_cX (n : Nat) (T : Nat → Prop) (W D P A : Nat → Nat) (fs : Int32) (aW aD aP aA : Nat → Int32) : Prop :=
  nr_CF n W D P A ∧ (∀ i, i < 10 → (bt fs i = true ↔ T i)) ∧ ∀ i, i < 10 → aW i = nI (W i) ∧ aD i = nI (D i) ∧ aP i = nI (P i) ∧ aA i = nI (A i)
section
variable {f_principals f_certSet f_grantSet f_openSet f_solved : Int32} {a_certOwner a_certName a_certPrincipal a_certPath a_grantOwner a_grantPrincipal a_grantPath a_costs a_settled a_reach a_trust a_before : Nat → Int32}
theorem nr_x_cell {post : Int32 → Prop} {k d x : Nat} (h : post (nI (nr_cell k d x))) : wpX_cellOf post (nI k) (nI d) (nI x) := by
  unfold wpX_cellOf; rw [nr_ce]; exact h
theorem nr_x_has {post : Int32 → Prop} {id : Nat} {n : Nat} {T : Nat → Prop} {W D P A : Nat → Nat} (hX : nr_cX n T W D P A f_certSet a_certOwner a_certName a_certPrincipal a_certPath) (hid : id < 10) (h1 : T id → post 1) (h0 : ¬ T id → post 0) : wpX_hasCert post (f_principals, f_certSet, f_grantSet, f_openSet, f_solved, a_certOwner, a_certName, a_certPrincipal, a_certPath, a_grantOwner, a_grantPrincipal, a_grantPath, a_costs, a_settled, a_reach, a_trust, a_before) (nI id) := by
  refine br_f (nI_pos (by omega)) (br_f (nI_ge (b := 10) hid (by omega)) (br_c (fun z => ?_) (fun z => ?_)))
  · rw [nr_bit _ (by omega), hX.2.1 id hid] at z; exact h0 z
  · rw [nr_bit _ (by omega), hX.2.1 id hid] at z; exact h1 (Classical.not_not.mp z)
theorem nr_x_offer {post : SX → Prop} {m : Nat → Nat} {id x v : Nat} {n : Nat} {T : Nat → Prop} {W D P A : Nat → Nat} (hX : nr_cX n T W D P A f_certSet a_certOwner a_certName a_certPrincipal a_certPath) (hid : id < 10) (hx : x < 6) (hv : v < 1048576) (hC : nr_CA a_costs m)
    (h : ∀ a', nr_CA a' (nr_of m (nr_cell (W id) (D id) x) v) → post (f_principals, f_certSet, f_grantSet, f_openSet, f_solved, a_certOwner, a_certName, a_certPrincipal, a_certPath, a_grantOwner, a_grantPrincipal, a_grantPath, a', a_settled, a_reach, a_trust, a_before)) : wpX_offer post (f_principals, f_certSet, f_grantSet, f_openSet, f_solved, a_certOwner, a_certName, a_certPrincipal, a_certPath, a_grantOwner, a_grantPrincipal, a_grantPath, a_costs, a_settled, a_reach, a_trust, a_before) (nI id) (nI x) (nI v) := by
  have hb := hX.1.2.2 id hid
  obtain ⟨e1, e2, e3, e4⟩ := hX.2.2 id hid
  have hn6 := hX.1.2.1
  have hin : vp_in (nI id) 10 := vp_in_nI hid (by omega)
  have hcl : nr_cell (W id) (D id) x < 108 := nr_cell_lt (by omega) (by omega) hx
  have hcin : vp_in (nI (nr_cell (W id) (D id) x)) 108 := vp_in_nI hcl (by omega)
  obtain ⟨hc, hm⟩ := hC _ hcl
  have he := nr_e_b (m (nr_cell (W id) (D id) x))
  unfold wpX_offer
  dsimp only
  refine ⟨hin, hin, ?_⟩
  rw [nI_clamp (n := id) (by omega), e1, e2]
  refine nr_x_cell ?_
  refine pk_lt 999 v (fun hl => ?_) (fun hl => ?_)
  · refine h _ ?_
    unfold nr_of; rw [if_neg (by omega)]; exact hC
  · refine ⟨hcin, ?_⟩
    rw [nI_clamp (n := nr_cell (W id) (D id) x) (by omega), hc]
    refine pk_le (nr_e (m (nr_cell (W id) (D id) x))) v (fun hl2 => ?_) (fun hl2 => ?_)
    · refine h _ ?_
      have h3 : ¬ v < m (nr_cell (W id) (D id) x) := by
        intro z
        unfold nr_e at hl2
        split at hl2 <;> omega
      unfold nr_of; rw [if_neg h3]; exact hC
    · refine ⟨hcin, fun a' ea => ?_⟩
      subst ea
      refine h _ ?_
      have h3 : v < m (nr_cell (W id) (D id) x) := by
        unfold nr_e at hl2
        split at hl2 <;> omega
      unfold nr_of; rw [if_pos h3]; exact nr_CA_up hC (by omega)
theorem nr_x_cheapest {post : Int32 → Prop} {m : Nat → Nat} {s : Nat → Bool} (hC : nr_CA a_costs m) (hS : nr_SA a_settled s)
    (h0 : (∀ i, i < 108 → s i = true ∨ 1000 ≤ m i) → post (-1))
    (h1 : ∀ b, b < 108 → ¬ s b = true → m b < 1000 → (∀ j, j < 108 → ¬ s j = true → m b ≤ m j) → post (nI b)) : wpX_cheapest post (f_principals, f_certSet, f_grantSet, f_openSet, f_solved, a_certOwner, a_certName, a_certPrincipal, a_certPath, a_grantOwner, a_grantPrincipal, a_grantPath, a_costs, a_settled, a_reach, a_trust, a_before) := by
  refine loop_0 (fun n i (x : Int32) => wX_cheapest_4 post f_principals f_certSet f_grantSet f_openSet f_solved a_certOwner a_certName a_certPrincipal a_certPath a_grantOwner a_grantPrincipal a_grantPath a_costs a_settled a_reach a_trust a_before n x (nI i)) (fun j x => (x = -1 ∧ ∀ i, i < j → s i = true ∨ 1000 ≤ m i) ∨ (∃ b, b < j ∧ x = nI b ∧ ¬ s b = true ∧ m b < 1000 ∧ ∀ i, i < j → ¬ s i = true → m b ≤ m i)) 108 (-1) (Or.inl ⟨rfl, fun i hi => absurd hi (by omega)⟩) ?_ ?_
  · intro n x hI
    refine br_t (nI_le (Nat.le_refl 108) (by omega)) ?_
    rcases hI with ⟨rfl, h⟩ | ⟨b, hb, rfl, g1, g2, g3⟩
    · exact h0 h
    · exact h1 b hb g1 g2 g3
  · intro n i x hi hI hn
    have hin := vp_in_nI (N := 108) hi (by omega)
    have hcl : (nI i).toNatClampNeg = i := nI_clamp (by omega)
    obtain ⟨hc, hm⟩ := hC i hi
    have he := nr_e_b (m i)
    refine br_f (nI_ge (b := 108) hi (by omega)) ⟨hin, ?_⟩
    rw [hcl]
    refine br_c (fun z => ⟨hin, ?_⟩) (fun z => ?_)
    · rw [hS i hi] at z
      rw [hc]
      refine pk_le 1048576 (nr_e (m i)) (fun hf => ?_) (fun hf => ?_)
      · rw [nr_e_far] at hf
        refine fun y ey => ?_
        rw [ey, nI_1]
        refine hn x ?_
        rcases hI with ⟨rfl, h⟩ | ⟨b, hb, rfl, g1, g2, g3⟩
        · exact Or.inl ⟨rfl, lt_s h (Or.inr hf)⟩
        · exact Or.inr ⟨b, by omega, rfl, g1, g2, lt_s g3 (fun _ => by omega)⟩
      · have hf' : m i < 1000 := by
          have := nr_e_far (v := m i)
          omega
        rcases hI with ⟨rfl, h⟩ | ⟨b, hb, rfl, g1, g2, g3⟩
        · refine br_t (by decide) (fun y ey => ?_)
          rw [ey, nI_1]
          refine hn (nI i) (Or.inr ⟨i, by omega, rfl, z, hf', lt_s (fun j hj zj => ?_) (fun _ => Nat.le_refl _)⟩)
          have := (h j hj).resolve_left zj
          omega
        · have hbin := vp_in_nI (N := 108) (n := b) (by omega) (by omega)
          have hbc : (nI b).toNatClampNeg = b := nI_clamp (by omega)
          obtain ⟨hcb, hmb⟩ := hC b (by omega)
          have heb := nr_e_b (m b)
          refine br_f (nI_pos (by omega)) ⟨hin, hbin, ?_⟩
          rw [hbc, hcb]
          refine pk_le (nr_e (m b)) (nr_e (m i)) (fun hl y ey => ?_) (fun hl y ey => ?_)
          · rw [nr_e_le hmb hm] at hl
            rw [ey, nI_1]
            exact hn (nI b) (Or.inr ⟨b, by omega, rfl, g1, g2, lt_s g3 (fun _ => hl)⟩)
          · have hl' : m i < m b := by
              have := nr_e_le hmb hm
              omega
            rw [ey, nI_1]
            refine hn (nI i) (Or.inr ⟨i, by omega, rfl, z, hf', lt_s (fun j hj zj => ?_) (fun _ => Nat.le_refl _)⟩)
            have := g3 j hj zj
            omega
    · rw [hS i hi] at z
      have z := Classical.not_not.mp z
      refine fun y ey => ?_
      rw [ey, nI_1]
      refine hn x ?_
      rcases hI with ⟨rfl, h⟩ | ⟨b, hb, rfl, g1, g2, g3⟩
      · exact Or.inl ⟨rfl, lt_s h (Or.inl z)⟩
      · exact Or.inr ⟨b, by omega, rfl, g1, g2, lt_s g3 (fun w => absurd z w)⟩
theorem nr_x_first1 {post : Int32 → Prop} {a : Nat} (h0 : 0 < a) (h3 : a ≤ 3) (h : post (nI (a - 1))) : wpX_firstName post (nI a) := by
  refine pk_lt 3 a (fun z => by omega) (fun _ => ?_)
  show post (nI a - nI 1)
  rw [pk_sub (by omega)]; exact h
theorem nr_x_first2 {post : Int32 → Prop} {a : Nat} (h3 : 3 < a) (h12 : a ≤ 12) (h : post (nI ((a - 4) / 3))) : wpX_firstName post (nI a) := by
  refine pk_lt 3 a (fun _ => ⟨by decide, ?_⟩) (fun z => by omega)
  show post ((nI a - nI 4) / nI 3)
  rw [pk_sub (by omega), pk_div (by omega) (by omega) (by omega)]; exact h
theorem nr_x_second {post : Int32 → Prop} {a : Nat} (h3 : 3 < a) (h12 : a ≤ 12) (h : post (nI ((a - 4) % 3))) : wpX_secondName post (nI a) := by
  refine And.intro (by decide) ?_
  show post ((nI a - nI 4) - (nI a - nI 4) / nI 3 * nI 3)
  rw [pk_sub (by omega), pk_rem (by omega) (by omega) (by omega)]; exact h
end
end
section
section
variable {f_principals f_certSet f_grantSet f_openSet f_solved : Int32} {a_certOwner a_certName a_certPrincipal a_certPath a_grantOwner a_grantPrincipal a_grantPath a_costs a_settled a_reach a_trust a_before : Nat → Int32}
theorem nr_x_pass {post : SX → Prop} {m0 m1 : Nat → Nat} {s : Nat → Bool} {S : Nat → Nat → Prop} {id x μ : Nat} {n : Nat} {T : Nat → Prop} {W D P A : Nat → Nat} (hX : nr_cX n T W D P A f_certSet a_certOwner a_certName a_certPrincipal a_certPath) (hid : id < 10) (hx : x < 6) (hA : 3 < A id) (hμ : μ < 1000) (hC : nr_CA a_costs m1) (hS : nr_SA a_settled s)
    (hO : nr_OF m0 m1 S) (hgt : ∀ i v, S i v → μ < v) (hlo : ∀ i, i < 108 → s i = true → m0 i ≤ μ)
    (h : ∀ a' m', nr_CA a' m' → nr_OF m0 m' (fun i v => S i v ∨ ∃ y, y < 6 ∧ s (nr_cell x ((A id - 4) % 3) y) = true ∧ i = nr_cell (W id) (D id) y ∧ v = μ + m0 (nr_cell x ((A id - 4) % 3) y) + 1) → post (f_principals, f_certSet, f_grantSet, f_openSet, f_solved, a_certOwner, a_certName, a_certPrincipal, a_certPath, a_grantOwner, a_grantPrincipal, a_grantPath, a', a_settled, a_reach, a_trust, a_before)) :
    wpX_passOn post (f_principals, f_certSet, f_grantSet, f_openSet, f_solved, a_certOwner, a_certName, a_certPrincipal, a_certPath, a_grantOwner, a_grantPrincipal, a_grantPath, a_costs, a_settled, a_reach, a_trust, a_before) (nI id) (nI x) (nI μ) := by
  have hb := hX.1.2.2 id hid
  obtain ⟨e1, e2, e3, e4⟩ := hX.2.2 id hid
  have hn6 := hX.1.2.1
  have hin : vp_in (nI id) 10 := vp_in_nI hid (by omega)
  unfold wpX_passOn
  dsimp only
  refine ⟨hin, ?_⟩
  rw [nI_clamp (n := id) (by omega), e4]
  refine nr_x_second hA hb.2.2.2 ?_
  refine loop_0 (fun n i (w : (Nat → Int32) × (Nat → Nat)) => wX_passOn_14 post (nI id) (nI x) (nI μ) (nI ((A id - 4) % 3)) n (nI i) f_principals f_certSet f_grantSet f_openSet f_solved a_certOwner a_certName a_certPrincipal a_certPath a_grantOwner a_grantPrincipal a_grantPath w.1 a_settled a_reach a_trust a_before)
    (fun j w => nr_CA w.1 w.2 ∧ nr_OF m0 w.2 (fun i v => S i v ∨ ∃ y, y < j ∧ s (nr_cell x ((A id - 4) % 3) y) = true ∧ i = nr_cell (W id) (D id) y ∧ v = μ + m0 (nr_cell x ((A id - 4) % 3) y) + 1)) 6 (a_costs, m1) ⟨hC, nr_OF_iff hO (fun i v => ⟨fun z => z.elim (fun z => z) (fun ⟨y, hy, _⟩ => absurd hy (by omega)), Or.inl⟩)⟩ ?_ ?_
  · intro n w hI
    exact br_t (nI_le (Nat.le_refl 6) (by omega)) (h w.1 w.2 hI.1 hI.2)
  · intro n y w hy hI hn
    obtain ⟨hCw, hOw⟩ := hI
    have hcl : nr_cell x ((A id - 4) % 3) y < 108 := nr_cell_lt hx (by omega) hy
    have hcin : vp_in (nI (nr_cell x ((A id - 4) % 3) y)) 108 := vp_in_nI hcl (by omega)
    refine br_f (nI_ge (b := 6) hy (by omega)) (nr_x_cell ⟨hcin, ?_⟩)
    rw [nI_clamp (n := nr_cell x ((A id - 4) % 3) y) (by omega)]
    refine br_c (fun z => ?_) (fun z => ⟨hcin, ?_⟩)
    · rw [hS _ hcl] at z
      refine fun q eq => ?_
      rw [eq, nI_1]
      refine hn w ⟨hCw, nr_OF_iff hOw (fun i v => ⟨fun g => g.elim Or.inl (fun ⟨y', hy', g1, g2⟩ => Or.inr ⟨y', ?_, g1, g2⟩), fun g => g.elim Or.inl (fun ⟨y', hy', g1⟩ => Or.inr ⟨y', by omega, g1⟩)⟩)⟩
      by_cases e : y' = y
      · rw [e] at g1; exact absurd g1 z
      · omega
    · rw [hS _ hcl] at z
      have z := Classical.not_not.mp z
      have hl := hlo _ hcl z
      have hk : w.2 (nr_cell x ((A id - 4) % 3) y) = m0 (nr_cell x ((A id - 4) % 3) y) := by
        refine nr_OF_keep hOw (μ := μ) (fun i v g => ?_) hl
        rcases g with g | ⟨y', _, _, _, g⟩
        · exact hgt i v g
        · omega
      obtain ⟨hc, hm⟩ := hCw _ hcl
      rw [hc, hk, nr_e_lt (by omega), nI_add, nI_1 (μ + m0 (nr_cell x ((A id - 4) % 3) y))]
      refine nr_x_offer hX hid hy (by omega) hCw (fun a' ha' => ?_)
      intro q eq
      rw [eq, nI_1]
      refine hn (a', _) ⟨ha', nr_OF_of hOw (fun i v => ⟨fun g => ?_, fun g => ?_⟩)⟩
      · rcases g with g | ⟨y', hy', g1, g2, g3⟩
        · exact Or.inl (Or.inl g)
        · by_cases e : y' = y
          · rw [e] at g2 g3; exact Or.inr ⟨g2, g3⟩
          · exact Or.inl (Or.inr ⟨y', by omega, g1, g2, g3⟩)
      · rcases g with (g | ⟨y', hy', g1⟩) | ⟨g1, g2⟩
        · exact Or.inl g
        · exact Or.inr ⟨y', by omega, g1⟩
        · exact Or.inr ⟨y, by omega, z, g1, g2⟩
theorem nr_x_come {post : SX → Prop} {m0 m1 : Nat → Nat} {s : Nat → Bool} {S : Nat → Nat → Prop} {id k x μ : Nat} {n : Nat} {T : Nat → Prop} {W D P A : Nat → Nat} (hX : nr_cX n T W D P A f_certSet a_certOwner a_certName a_certPrincipal a_certPath) (hid : id < 10) (hk : k < 6) (hx : x < 6) (hA : 3 < A id) (hμ : μ < 1000) (hC : nr_CA a_costs m1) (hS : nr_SA a_settled s)
    (hO : nr_OF m0 m1 S) (hgt : ∀ i v, S i v → μ < v) (hlo : ∀ i, i < 108 → s i = true → m0 i ≤ μ)
    (h : ∀ a' m', nr_CA a' m' → nr_OF m0 m' (fun i v => S i v ∨ (s (nr_cell (P id) ((A id - 4) / 3) k) = true ∧ i = nr_cell (W id) (D id) x ∧ v = μ + m0 (nr_cell (P id) ((A id - 4) / 3) k) + 1)) → post (f_principals, f_certSet, f_grantSet, f_openSet, f_solved, a_certOwner, a_certName, a_certPrincipal, a_certPath, a_grantOwner, a_grantPrincipal, a_grantPath, a', a_settled, a_reach, a_trust, a_before)) :
    wpX_comeFrom post (f_principals, f_certSet, f_grantSet, f_openSet, f_solved, a_certOwner, a_certName, a_certPrincipal, a_certPath, a_grantOwner, a_grantPrincipal, a_grantPath, a_costs, a_settled, a_reach, a_trust, a_before) (nI id) (nI k) (nI x) (nI μ) := by
  have hb := hX.1.2.2 id hid
  obtain ⟨e1, e2, e3, e4⟩ := hX.2.2 id hid
  have hn6 := hX.1.2.1
  have hin : vp_in (nI id) 10 := vp_in_nI hid (by omega)
  have hcl : nr_cell (P id) ((A id - 4) / 3) k < 108 := nr_cell_lt (by omega) (by omega) hk
  have hcin : vp_in (nI (nr_cell (P id) ((A id - 4) / 3) k)) 108 := vp_in_nI hcl (by omega)
  unfold wpX_comeFrom
  dsimp only
  refine ⟨hin, ?_⟩
  rw [nI_clamp (n := id) (by omega), e4, e3]
  refine nr_x_first2 hA hb.2.2.2 ⟨hin, nr_x_cell ⟨hcin, ?_⟩⟩
  rw [nI_clamp (n := nr_cell (P id) ((A id - 4) / 3) k) (by omega)]
  refine br_c (fun z => ?_) (fun z => ⟨hcin, ?_⟩)
  · rw [hS _ hcl] at z
    exact h _ m1 hC (nr_OF_iff hO (fun i v => ⟨fun g => g.elim (fun g => g) (fun g => absurd g.1 z), Or.inl⟩))
  · rw [hS _ hcl] at z
    have z := Classical.not_not.mp z
    have hl := hlo _ hcl z
    have hkk : m1 (nr_cell (P id) ((A id - 4) / 3) k) = m0 (nr_cell (P id) ((A id - 4) / 3) k) := nr_OF_keep hO (μ := μ) hgt hl
    obtain ⟨hc, hm⟩ := hC _ hcl
    rw [hc, hkk, nr_e_lt (by omega), nI_add, nI_1]
    refine nr_x_offer hX hid hx (by omega) hC (fun a' ha' => ?_)
    refine h a' _ ha' (nr_OF_of hO (fun i v => ⟨fun g => ?_, fun g => ?_⟩))
    · rcases g with g | ⟨_, g2, g3⟩
      · exact Or.inl g
      · exact Or.inr ⟨g2, g3⟩
    · rcases g with g | ⟨g2, g3⟩
      · exact Or.inl g
      · exact Or.inr ⟨z, g2, g3⟩
theorem nr_x_131 {post : SX → Prop} {J : Int32 → Int32 → Int32 → Int32 → Int32 → Int32 → (Nat → Int32) → (Nat → Int32) → (Nat → Int32) → (Nat → Int32) → (Nat → Int32) → (Nat → Int32) → (Nat → Int32) → (Nat → Int32) → (Nat → Int32) → (Nat → Int32) → (Nat → Int32) → (Nat → Int32) → Prop} {m0 m1 : Nat → Nat} {s : Nat → Bool} {S : Nat → Nat → Prop} {id k d x μ : Nat} {n : Nat} {T : Nat → Prop} {W D P A : Nat → Nat} (hX : nr_cX n T W D P A f_certSet a_certOwner a_certName a_certPrincipal a_certPath) (hid : id < 10) (hk : k < 6) (hd : d < 3) (hx : x < 6) (hA : 3 < A id) (hμ : μ < 1000) (hC : nr_CA a_costs m1) (hS : nr_SA a_settled s)
    (hO : nr_OF m0 m1 S) (hgt : ∀ i v, S i v → μ < v) (hlo : ∀ i, i < 108 → s i = true → m0 i ≤ μ)
    (h : ∀ a' m', nr_CA a' m' → nr_OF m0 m' (fun i v => S i v ∨ ((A id - 4) % 3 = d ∧ s (nr_cell (P id) ((A id - 4) / 3) k) = true ∧ i = nr_cell (W id) (D id) x ∧ v = μ + m0 (nr_cell (P id) ((A id - 4) / 3) k) + 1)) → J (nI (id + 1)) f_principals f_certSet f_grantSet f_openSet f_solved a_certOwner a_certName a_certPrincipal a_certPath a_grantOwner a_grantPrincipal a_grantPath a' a_settled a_reach a_trust a_before) :
    wX_spread_131 post J (nI k) (nI d) (nI x) (nI μ) (nI id) (nI (A id)) f_principals f_certSet f_grantSet f_openSet f_solved a_certOwner a_certName a_certPrincipal a_certPath a_grantOwner a_grantPrincipal a_grantPath a_costs a_settled a_reach a_trust a_before := by
  have hb := hX.1.2.2 id hid
  unfold wX_spread_131
  refine pk_le (A id) 3 (fun z => by omega) (fun _ => ?_)
  refine nr_x_second hA hb.2.2.2 ?_
  refine pk_eq ((A id - 4) % 3) d (fun e => ?_) (fun e => ?_)
  · refine nr_x_come hX hid hk hx hA hμ hC hS hO hgt hlo (fun a' m' h1 h2 => ?_)
    intro q eq
    rw [eq, nI_1]
    refine h a' m' h1 (nr_OF_iff h2 (fun i v => ⟨fun g => g.elim Or.inl (fun g => Or.inr g.2), fun g => g.elim Or.inl (fun g => Or.inr ⟨e, g⟩)⟩))
  · intro q eq
    rw [eq, nI_1]
    exact h _ m1 hC (nr_OF_iff hO (fun i v => ⟨fun g => g.elim (fun g => g) (fun g => absurd g.1 e), Or.inl⟩))
theorem nr_x_85 {post : SX → Prop} {J : Int32 → Int32 → Int32 → Int32 → Int32 → Int32 → (Nat → Int32) → (Nat → Int32) → (Nat → Int32) → (Nat → Int32) → (Nat → Int32) → (Nat → Int32) → (Nat → Int32) → (Nat → Int32) → (Nat → Int32) → (Nat → Int32) → (Nat → Int32) → (Nat → Int32) → Prop} {m0 m1 : Nat → Nat} {s : Nat → Bool} {S : Nat → Nat → Prop} {id k d x μ : Nat} {z0 : Int32} {n : Nat} {T : Nat → Prop} {W D P A : Nat → Nat} (hX : nr_cX n T W D P A f_certSet a_certOwner a_certName a_certPrincipal a_certPath) (hid : id < 10) (hk : k < 6) (hd : d < 3) (hx : x < 6) (hA : 0 < A id) (hμ : μ < 1000) (hC : nr_CA a_costs m1) (hS : nr_SA a_settled s)
    (hz : ¬ z0 = 0 ↔ (P id = k ∧ (if A id ≤ 3 then A id - 1 else (A id - 4) / 3) = d))
    (hO : nr_OF m0 m1 S) (hgt : ∀ i v, S i v → μ < v) (hlo : ∀ i, i < 108 → s i = true → m0 i ≤ μ)
    (h : ∀ a' m', nr_CA a' m' → nr_OF m0 m' (fun i v => S i v ∨ nr_S1 s m0 W D P A k d x μ id i v) → J (nI (id + 1)) f_principals f_certSet f_grantSet f_openSet f_solved a_certOwner a_certName a_certPrincipal a_certPath a_grantOwner a_grantPrincipal a_grantPath a' a_settled a_reach a_trust a_before) :
    wX_spread_85 post J (nI k) (nI d) (nI x) (nI μ) (nI id) (nI (A id)) z0 f_principals f_certSet f_grantSet f_openSet f_solved a_certOwner a_certName a_certPrincipal a_certPath a_grantOwner a_grantPrincipal a_grantPath a_costs a_settled a_reach a_trust a_before := by
  have hb := hX.1.2.2 id hid
  by_cases h3 : A id ≤ 3
  · rw [if_pos h3] at hz
    have fin : ∀ a' m', nr_CA a' m' → nr_OF m0 m' (fun i v => S i v ∨ nr_S1 s m0 W D P A k d x μ id i v) → wX_spread_110 post J (nI k) (nI d) (nI x) (nI μ) (nI id) (nI (A id)) z0 f_principals f_certSet f_grantSet f_openSet f_solved a_certOwner a_certName a_certPrincipal a_certPath a_grantOwner a_grantPrincipal a_grantPath a' a_settled a_reach a_trust a_before := by
      intro a' m' h1 h2
      unfold wX_spread_110
      refine pk_le (A id) 3 (fun _ => ?_) (fun z => by omega)
      unfold wX_spread_131
      refine pk_le (A id) 3 (fun _ => ?_) (fun z => by omega)
      intro q eq
      rw [eq, nI_1]
      exact h a' m' h1 h2
    unfold wX_spread_85
    refine pk_lt 3 (A id) (fun z => by omega) (fun _ => br_c (fun z => ?_) (fun z => ?_))
    · refine fin _ m1 hC (nr_OF_iff hO (fun i v => ⟨fun g => ?_, Or.inl⟩))
      rcases g with g | ⟨g1, g2, g3, g4, g5, g6⟩ | ⟨g1, _⟩ | ⟨g1, _⟩
      · exact g
      · exact absurd z (hz.mpr ⟨g3, g4⟩)
      · omega
      · omega
    · have f := hz.mp z
      show wpX_offer _ _ (nI id) (nI x) (nI μ + 1)
      rw [nI_1]
      refine nr_x_offer hX hid hx (by omega) hC (fun a' ha' => ?_)
      refine fin a' _ ha' (nr_OF_of hO (fun i v => ⟨fun g => ?_, fun g => ?_⟩))
      · rcases g with g | ⟨g1, g2, g3, g4, g5, g6⟩ | ⟨g1, _⟩ | ⟨g1, _⟩
        · exact Or.inl g
        · exact Or.inr ⟨g5, g6⟩
        · omega
        · omega
      · rcases g with g | ⟨g5, g6⟩
        · exact Or.inl g
        · exact Or.inr (Or.inl ⟨hA, h3, f.1, f.2, g5, g6⟩)
  · rw [if_neg h3] at hz
    have h3' : 3 < A id := by omega
    unfold wX_spread_85
    refine pk_lt 3 (A id) (fun _ => ?_) (fun z => by omega)
    unfold wX_spread_110
    refine pk_le (A id) 3 (fun z => by omega) (fun _ => br_c (fun z => ?_) (fun z => ?_))
    · refine nr_x_131 hX hid hk hd hx h3' hμ hC hS hO hgt hlo (fun a' m' h1 h2 => h a' m' h1 (nr_OF_iff h2 (fun i v => ⟨fun g => ?_, fun g => ?_⟩)))
      · rcases g with g | ⟨g1, g2, _⟩ | ⟨g1, g2, g3, _⟩ | ⟨g1, g2⟩
        · exact Or.inl g
        · omega
        · exact absurd z (hz.mpr ⟨g2, g3⟩)
        · exact Or.inr g2
      · rcases g with g | g
        · exact Or.inl g
        · exact Or.inr (Or.inr (Or.inr ⟨h3', g⟩))
    · have f := hz.mp z
      refine nr_x_pass hX hid hx h3' hμ hC hS hO hgt hlo (fun a' m' h1 h2 => ?_)
      refine nr_x_131 hX hid hk hd hx h3' hμ h1 hS h2 (fun i v g => ?_) hlo (fun a2 m2 h1 h2 => h a2 m2 h1 (nr_OF_iff h2 (fun i v => ⟨fun g => ?_, fun g => ?_⟩)))
      · rcases g with g | ⟨y, _, _, _, g⟩
        · exact hgt i v g
        · omega
      · rcases g with g | ⟨g1, g2, _⟩ | ⟨g1, g2, g3, g4⟩ | ⟨g1, g2⟩
        · exact Or.inl (Or.inl g)
        · omega
        · exact Or.inl (Or.inr g4)
        · exact Or.inr g2
      · rcases g with (g | g) | g
        · exact Or.inl g
        · exact Or.inr (Or.inr (Or.inl ⟨h3', f.1, f.2, g⟩))
        · exact Or.inr (Or.inr (Or.inr ⟨h3', g⟩))
theorem nr_x_spread {post : SX → Prop} {m : Nat → Nat} {s : Nat → Bool} {c : Nat} {n : Nat} {T : Nat → Prop} {W D P A : Nat → Nat} (hX : nr_cX n T W D P A f_certSet a_certOwner a_certName a_certPrincipal a_certPath) (hc : c < 108) (hμ : m c < 1000) (hC : nr_CA a_costs m) (hS : nr_SA a_settled s) (hlo : ∀ i, i < 108 → s i = true → m i ≤ m c)
    (h : ∀ a' m', nr_CA a' m' → nr_OF m m' (nr_S T s m W D P A (c / 18) (c % 18 / 6) (c % 6) (m c) 10) → post (f_principals, f_certSet, f_grantSet, f_openSet, f_solved, a_certOwner, a_certName, a_certPrincipal, a_certPath, a_grantOwner, a_grantPrincipal, a_grantPath, a', a_settled, a_reach, a_trust, a_before)) :
    wpX_spread post (f_principals, f_certSet, f_grantSet, f_openSet, f_solved, a_certOwner, a_certName, a_certPrincipal, a_certPath, a_grantOwner, a_grantPrincipal, a_grantPath, a_costs, a_settled, a_reach, a_trust, a_before) (nI c) := by
  obtain ⟨_, hk, hd, hx⟩ := nr_cell_of hc
  have hn6 := hX.1.2.1
  unfold wpX_spread
  dsimp only
  refine ⟨by decide, nm_r (e' := nI (c / 18)) (pk_div (d := 18) (by omega) (by omega) (by omega)) ⟨by decide, by decide, nm_r (e' := nI (c % 18 / 6)) ?_ ⟨by decide, nm_r (e' := nI (c % 6)) (pk_rem (d := 6) (by omega) (by omega) (by omega)) ⟨vp_in_nI hc (by omega), nm_r (e' := nI (m c)) ?_ ?_⟩⟩⟩⟩
  · show (nI c - nI c / nI 18 * nI 18) / nI 6 = _
    rw [pk_rem (by omega) (by omega) (by omega), pk_div (by omega) (by omega) (by omega)]
  · rw [nI_clamp (by omega), (hC c hc).1, nr_e_lt hμ]
  refine loop_0 (fun n i (w : (Nat → Int32) × (Nat → Nat)) => wX_spread_30 post (nI (c / 18)) (nI (c % 18 / 6)) (nI (c % 6)) (nI (m c)) n (nI i) f_principals f_certSet f_grantSet f_openSet f_solved a_certOwner a_certName a_certPrincipal a_certPath a_grantOwner a_grantPrincipal a_grantPath w.1 a_settled a_reach a_trust a_before)
    (fun j w => nr_CA w.1 w.2 ∧ nr_OF m w.2 (nr_S T s m W D P A (c / 18) (c % 18 / 6) (c % 6) (m c) j)) 10 (a_costs, m) ⟨hC, nr_OF_0 m (fun i v ⟨id, hid, _⟩ => absurd hid (by omega))⟩ ?_ ?_
  · intro n w hI
    exact br_t (nI_le (Nat.le_refl 10) (by omega)) (h w.1 w.2 hI.1 hI.2)
  · intro n id w hid hI hn
    obtain ⟨hCw, hOw⟩ := hI
    have hb := hX.1.2.2 id hid
    obtain ⟨e1, e2, e3, e4⟩ := hX.2.2 id hid
    have hin : vp_in (nI id) 10 := vp_in_nI hid (by omega)
    have hcl : (nI id).toNatClampNeg = id := nI_clamp (by omega)
    have skip : (T id → ∀ i v, ¬ nr_S1 s m W D P A (c / 18) (c % 18 / 6) (c % 6) (m c) id i v) → ∀ q, q = nI id + 1 → wX_spread_30 post (nI (c / 18)) (nI (c % 18 / 6)) (nI (c % 6)) (nI (m c)) n q f_principals f_certSet f_grantSet f_openSet f_solved a_certOwner a_certName a_certPrincipal a_certPath a_grantOwner a_grantPrincipal a_grantPath w.1 a_settled a_reach a_trust a_before := by
      intro hno q eq
      rw [eq, nI_1]
      refine hn w ⟨hCw, nr_OF_iff hOw (fun i v => ⟨fun ⟨id', h1, h2, h3⟩ => ⟨id', ?_, h2, h3⟩, fun ⟨id', h1, h2, h3⟩ => ⟨id', by omega, h2, h3⟩⟩)⟩
      by_cases e : id' = id
      · rw [e] at h2 h3; exact absurd h3 (hno h2 i v)
      · omega
    have fin : T id → ∀ a' m', nr_CA a' m' → nr_OF m m' (fun i v => nr_S T s m W D P A (c / 18) (c % 18 / 6) (c % 6) (m c) id i v ∨ nr_S1 s m W D P A (c / 18) (c % 18 / 6) (c % 6) (m c) id i v) → wX_spread_30 post (nI (c / 18)) (nI (c % 18 / 6)) (nI (c % 6)) (nI (m c)) n (nI (id + 1)) f_principals f_certSet f_grantSet f_openSet f_solved a_certOwner a_certName a_certPrincipal a_certPath a_grantOwner a_grantPrincipal a_grantPath a' a_settled a_reach a_trust a_before := by
      intro hT a' m' h1 h2
      refine hn (a', m') ⟨h1, nr_OF_iff h2 (fun i v => ⟨fun ⟨id', g1, g2, g3⟩ => ?_, fun g => ?_⟩)⟩
      · by_cases e : id' = id
        · rw [e] at g3; exact Or.inr g3
        · exact Or.inl ⟨id', by omega, g2, g3⟩
      · rcases g with ⟨id', g1, g2, g3⟩ | g
        · exact ⟨id', by omega, g2, g3⟩
        · exact ⟨id, by omega, hT, g⟩
    have hgt : ∀ i v, nr_S T s m W D P A (c / 18) (c % 18 / 6) (c % 6) (m c) id i v → m c < v := fun i v ⟨_, _, _, g⟩ => nr_S1_gt g
    refine br_f (nI_ge (b := 10) hid (by omega)) ⟨hin, nm_r (e' := nI (A id)) (by rw [hcl, e4]) ?_⟩
    refine nr_x_has hX hid (fun hT => ?_) (fun hT => br_t rfl (skip (fun z => absurd z hT)))
    refine br_f (by decide) ?_
    refine pk_le (A id) 0 (fun z => skip (fun _ i v g => ?_)) (fun hA => ⟨hin, ?_⟩)
    · rcases g with ⟨g1, _⟩ | ⟨g1, _⟩ | ⟨g1, _⟩ <;> omega
    rw [hcl, e3]
    refine pk_eq (P id) (c / 18) (fun ep => ?_) (fun ep => ?_)
    · by_cases h3 : A id ≤ 3
      · refine nr_x_first1 hA h3 ?_
        refine pk_eq (A id - 1) (c % 18 / 6) (fun ef => ?_) (fun ef => ?_)
        · exact nr_x_85 hX hid hk hd hx hA hμ hCw hS ⟨fun _ => ⟨ep, by rw [if_pos h3]; exact ef⟩, fun _ => by decide⟩ hOw hgt hlo (fin hT)
        · exact nr_x_85 hX hid hk hd hx hA hμ hCw hS ⟨fun z => absurd rfl z, fun z => absurd (by rw [if_pos h3] at z; exact z.2) ef⟩ hOw hgt hlo (fin hT)
      · refine nr_x_first2 (by omega) hb.2.2.2 ?_
        refine pk_eq ((A id - 4) / 3) (c % 18 / 6) (fun ef => ?_) (fun ef => ?_)
        · exact nr_x_85 hX hid hk hd hx hA hμ hCw hS ⟨fun _ => ⟨ep, by rw [if_neg h3]; exact ef⟩, fun _ => by decide⟩ hOw hgt hlo (fin hT)
        · exact nr_x_85 hX hid hk hd hx hA hμ hCw hS ⟨fun z => absurd rfl z, fun z => absurd (by rw [if_neg h3] at z; exact z.2) ef⟩ hOw hgt hlo (fin hT)
    · exact nr_x_85 hX hid hk hd hx hA hμ hCw hS ⟨fun z => absurd rfl z, fun z => absurd z.1 ep⟩ hOw hgt hlo (fin hT)
end
end
section
theorem nr_n0 : vp_nar .boolean 0 = 0 := rfl
theorem nr_n1 : vp_nar .boolean 1 = 1 := rfl
section
variable {f_principals f_certSet f_grantSet f_openSet f_solved : Int32} {a_certOwner a_certName a_certPrincipal a_certPath a_grantOwner a_grantPrincipal a_grantPath a_costs a_settled a_reach a_trust a_before : Nat → Int32}
theorem nr_x_s87 {post : SX → Prop} {m F : Nat → Nat} {s : Nat → Bool} {n : Nat} {T : Nat → Prop} {W D P A : Nat → Nat} (hX : nr_cX n T W D P A f_certSet a_certOwner a_certName a_certPrincipal a_certPath) (hF : nr_FN n T W D P A F) (hC : nr_CA a_costs m) (hS : nr_SA a_settled s) (hD : nr_DIN 108 (nr_E n T) (nr_t W D) (nr_v P A) m s)
    (h : ∀ a b, nr_CA a F → post (f_principals, f_certSet, f_grantSet, f_openSet, f_solved, a_certOwner, a_certName, a_certPrincipal, a_certPath, a_grantOwner, a_grantPrincipal, a_grantPath, a, b, a_reach, a_trust, a_before)) : ∃ n87, wX_solve_87 post n87 0 f_principals f_certSet f_grantSet f_openSet f_solved a_certOwner a_certName a_certPrincipal a_certPath a_grantOwner a_grantPrincipal a_grantPath a_costs a_settled a_reach a_trust a_before := by
  have fin : ∀ (m : Nat → Nat) (s : Nat → Bool) a b, nr_CA a m → nr_DIN 108 (nr_E n T) (nr_t W D) (nr_v P A) m s → (∀ i, i < 108 → s i = true ∨ 1000 ≤ m i) → post (f_principals, f_certSet, f_grantSet, f_openSet, f_solved, a_certOwner, a_certName, a_certPrincipal, a_certPath, a_grantOwner, a_grantPrincipal, a_grantPath, a, b, a_reach, a_trust, a_before) := by
    intro m s a b hC hD ha
    have hm := nr_FN_1 hX.1 hF (nr_end (nr_MN hX.1) hD ha)
    exact h a b (nr_CA_eq hC hm)
  refine loop_0 (fun n i (w : (Nat → Int32) × (Nat → Int32) × (Nat → Nat) × (Nat → Bool)) => wX_solve_87 post n (nI i) f_principals f_certSet f_grantSet f_openSet f_solved a_certOwner a_certName a_certPrincipal a_certPath a_grantOwner a_grantPrincipal a_grantPath w.1 w.2.1 a_reach a_trust a_before)
    (fun j w => nr_CA w.1 w.2.2.1 ∧ nr_SA w.2.1 w.2.2.2 ∧ nr_DIN 108 (nr_E n T) (nr_t W D) (nr_v P A) w.2.2.1 w.2.2.2 ∧ j ≤ nr_cnt w.2.2.2 108) 108 (a_costs, a_settled, m, s) ⟨hC, hS, hD, Nat.zero_le _⟩ ?_ ?_
  · intro n w hI
    obtain ⟨a, st, m, s⟩ := w
    obtain ⟨hC, hS, hD, hn⟩ := hI
    exact br_t (nI_le (Nat.le_refl 108) (by omega)) (fin m s a st hC hD (fun i hi => Or.inl (nr_cnt_all hn i hi)))
  · intro n j w hj hI hn
    obtain ⟨a, st, m, s⟩ := w
    obtain ⟨hC, hS, hD, hcn⟩ := hI
    refine br_f (nI_ge (b := 108) hj (by omega)) ?_
    refine nr_x_cheapest hC hS (fun ha => ?_) (fun b hb g1 g2 g3 => ?_)
    · exact br_f (by decide) (fin m s a st hC hD ha)
    · refine br_t (nI_pos' (by omega)) ⟨vp_in_nI hb (by omega), nm_r (e' := upd st b 1) (by rw [nI_clamp (by omega)]; rfl) ?_⟩
      have hs' : ∀ i, i < 108 → ((s i || decide (i = b)) = true ↔ s i = true ∨ i = b) := fun i _ => by simp
      have hS' : nr_SA (upd st b 1) (fun i => s i || decide (i = b)) := by
        intro i hi
        by_cases e : i = b
        · rw [e, pk_us]; simp
        · rw [pk_un e, hS i hi]; simp [e]
      have hlo : ∀ i, i < 108 → (s i || decide (i = b)) = true → m i ≤ m b := by
        intro i hi z
        rcases (hs' i hi).mp z with z | z
        · exact hD.2.2.1 i b hi hb z g1
        · rw [z]; exact Nat.le_refl _
      refine nr_x_spread (s := fun i => s i || decide (i = b)) hX hb g2 hC hS' hlo (fun a' m' h1 h2 => ?_)
      intro q eq
      rw [eq, nI_1]
      obtain ⟨ec, hk, hd, hx⟩ := nr_cell_of hb
      refine hn (a', upd st b 1, m', fun i => s i || decide (i = b)) ⟨h1, hS', ?_, ?_⟩
      · exact nr_spread hX.1 hk hd hx hD (by rw [ec]; exact g1) (by rw [ec]; exact g2) (by rw [ec]; exact g3) (by rw [ec]; exact hs') (by rw [ec]; exact h2)
      · have := nr_cnt_lt (p := s) (q := fun i => s i || decide (i = b)) hb (fun i hi z => (hs' i hi).mpr (Or.inl z)) g1 ((hs' b hb).mpr (Or.inr rfl))
        exact Nat.lt_of_le_of_lt hcn this
theorem nr_x_s44 {post : SX → Prop} {F : Nat → Nat} {n : Nat} {T : Nat → Prop} {W D P A : Nat → Nat} (hX : nr_cX n T W D P A f_certSet a_certOwner a_certName a_certPrincipal a_certPath) (hF : nr_FN n T W D P A F) (hC : nr_CA a_costs (fun _ => 1000)) (hS : nr_SA a_settled (fun _ => false))
    (h : ∀ a b, nr_CA a F → post (f_principals, f_certSet, f_grantSet, f_openSet, f_solved, a_certOwner, a_certName, a_certPrincipal, a_certPath, a_grantOwner, a_grantPrincipal, a_grantPath, a, b, a_reach, a_trust, a_before)) : ∃ n44, wX_solve_44 post n44 0 f_principals f_certSet f_grantSet f_openSet f_solved a_certOwner a_certName a_certPrincipal a_certPath a_grantOwner a_grantPrincipal a_grantPath a_costs a_settled a_reach a_trust a_before := by
  refine loop_0 (fun n i (w : (Nat → Int32) × (Nat → Nat)) => wX_solve_44 post n (nI i) f_principals f_certSet f_grantSet f_openSet f_solved a_certOwner a_certName a_certPrincipal a_certPath a_grantOwner a_grantPrincipal a_grantPath w.1 a_settled a_reach a_trust a_before)
    (fun j w => nr_CA w.1 w.2 ∧ nr_OF (fun _ => 1000) w.2 (nr_S0 T W D P A j)) 10 (a_costs, fun _ => 1000) ⟨hC, nr_OF_0 _ (fun i v ⟨id, hid, _⟩ => absurd hid (by omega))⟩ ?_ ?_
  · intro n w hI
    refine br_t (nI_le (Nat.le_refl 10) (by omega)) ?_
    exact nr_x_s87 hX hF hI.1 hS (nr_first hX.1 (fun i _ z => by cases z) (fun _ _ => rfl) hI.2) h
  · intro n id w hid hI hn
    obtain ⟨hCw, hOw⟩ := hI
    have hb := hX.1.2.2 id hid
    have hn6 := hX.1.2.1
    obtain ⟨e1, e2, e3, e4⟩ := hX.2.2 id hid
    have hin : vp_in (nI id) 10 := vp_in_nI hid (by omega)
    have hcl : (nI id).toNatClampNeg = id := nI_clamp (by omega)
    have skip : (T id → ¬ A id = 0) → ∀ q, q = nI id + 1 → wX_solve_44 post n q f_principals f_certSet f_grantSet f_openSet f_solved a_certOwner a_certName a_certPrincipal a_certPath a_grantOwner a_grantPrincipal a_grantPath w.1 a_settled a_reach a_trust a_before := by
      intro hno q eq
      rw [eq, nI_1]
      refine hn w ⟨hCw, nr_OF_iff hOw (fun i v => ⟨fun ⟨id', h1, h2, h3, h4⟩ => ⟨id', ?_, h2, h3, h4⟩, fun ⟨id', h1, h2⟩ => ⟨id', by omega, h2⟩⟩)⟩
      by_cases e : id' = id
      · rw [e] at h2 h3; exact absurd h3 (hno h2)
      · omega
    refine br_f (nI_ge (b := 10) hid (by omega)) ?_
    refine nr_x_has hX hid (fun hT => br_f (by decide) ⟨hin, ?_⟩) (fun hT => br_t rfl (skip (fun z => absurd z hT)))
    rw [hcl, e4]
    refine pk_eq (A id) 0 (fun hA => ⟨hin, ?_⟩) (fun hA => skip (fun _ => hA))
    rw [e3]
    refine nr_x_offer (v := 1) hX hid (by omega) (by omega) hCw (fun a' ha' => ?_)
    intro q eq
    rw [eq, nI_1]
    refine hn (a', _) ⟨ha', nr_OF_of hOw (fun i v => ⟨fun ⟨id', h1, h2, h3, h4, h5⟩ => ?_, fun g => ?_⟩)⟩
    · by_cases e : id' = id
      · rw [e] at h4; exact Or.inr ⟨h4, h5⟩
      · exact Or.inl ⟨id', by omega, h2, h3, h4, h5⟩
    · rcases g with ⟨id', h1, h2⟩ | ⟨g1, g2⟩
      · exact ⟨id', by omega, h2⟩
      · exact ⟨id, by omega, hT, hA, g1, g2⟩
theorem nr_x_solve {post : SX → Prop} {F : Nat → Nat} {n : Nat} {T : Nat → Prop} {W D P A : Nat → Nat} (hX : nr_cX n T W D P A f_certSet a_certOwner a_certName a_certPrincipal a_certPath) (hF : nr_FN n T W D P A F) (hs : ¬ f_solved = 0 → nr_CA a_costs F)
    (h : ∀ g a b, ¬ g = 0 → nr_CA a F → post (f_principals, f_certSet, f_grantSet, f_openSet, g, a_certOwner, a_certName, a_certPrincipal, a_certPath, a_grantOwner, a_grantPrincipal, a_grantPath, a, b, a_reach, a_trust, a_before)) : wpX_solve post (f_principals, f_certSet, f_grantSet, f_openSet, f_solved, a_certOwner, a_certName, a_certPrincipal, a_certPath, a_grantOwner, a_grantPrincipal, a_grantPath, a_costs, a_settled, a_reach, a_trust, a_before) := by
  refine br_c (fun z => ?_) (fun z => h _ _ _ z (hs z))
  refine loop_0 (fun n i (w : (Nat → Int32) × (Nat → Int32)) => wX_solve_15 post f_principals f_certSet f_grantSet f_openSet 1 n (nI i) a_certOwner a_certName a_certPrincipal a_certPath a_grantOwner a_grantPrincipal a_grantPath w.1 w.2 a_reach a_trust a_before)
    (fun j w => ∀ i, i < j → w.1 i = 1048576 ∧ w.2 i = 0) 108 (a_costs, a_settled) (fun i hi => absurd hi (by omega)) ?_ ?_
  · intro n w hI
    refine br_t (nI_le (Nat.le_refl 108) (by omega)) ?_
    refine nr_x_s44 hX hF (fun i hi => ⟨(hI i hi).1, Nat.le_refl _⟩) (fun i hi => ⟨fun _ => Bool.false_ne_true, fun _ => (hI i hi).2⟩) (fun a b hc => h 1 a b (by decide) hc)
  · intro n i w hi hI hn
    have hin : vp_in (nI i) 108 := vp_in_nI hi (by omega)
    have hcl : (nI i).toNatClampNeg = i := nI_clamp (by omega)
    refine br_f (nI_ge (b := 108) hi (by omega)) ⟨hin, nm_r (e' := upd w.1 i 1048576) (by rw [hcl]) ⟨hin, nm_r (e' := upd w.2 i 0) (by rw [hcl]; rfl) (nm_r (nI_1 i) ?_)⟩⟩
    refine hn (upd w.1 i 1048576, upd w.2 i 0) (fun j hj => ?_)
    by_cases e : j = i
    · rw [e]; exact ⟨pk_us, pk_us⟩
    · show upd w.1 i 1048576 j = _ ∧ upd w.2 i 0 j = _
      rw [pk_un e, pk_un e]; exact hI j (by omega)
theorem nr_x_den {post : Int32 → Prop} {m : Nat → Nat} {p a x : Nat} (hC : nr_CA a_costs m) (hp : p < 6) (ha : a ≤ 12) (hx : x < 6) (h : post (nI (nr_e (nr_sh m p a x)))) : wpX_denoteCost post (f_principals, f_certSet, f_grantSet, f_openSet, f_solved, a_certOwner, a_certName, a_certPrincipal, a_certPath, a_grantOwner, a_grantPrincipal, a_grantPath, a_costs, a_settled, a_reach, a_trust, a_before) (nI p) (nI a) (nI x) := by
  unfold wpX_denoteCost
  dsimp only
  refine pk_eq a 0 (fun h0 => ?_) (fun h0 => ?_)
  · rw [nr_sh_0 h0] at h
    refine pk_eq p x (fun e => ?_) (fun e => ?_)
    · rw [if_pos e] at h; exact h
    · rw [if_neg e] at h; exact h
  · by_cases h3 : a ≤ 3
    · rw [nr_sh_1 (by omega) h3] at h
      have hcl := nr_cell_lt (k := p) (d := a - 1) (x := x) hp (by omega) hx
      refine nr_x_first1 (by omega) h3 (pk_lt 3 a (fun z => by omega) (fun _ => ?_))
      rw [nr_ce, nI_clamp (n := nr_cell p (a - 1) x) (by omega), (hC _ hcl).1]
      exact ⟨vp_in_nI hcl (by omega), h⟩
    · rw [nr_sh_2 (by omega)] at h
      refine nr_x_first2 (by omega) ha (pk_lt 3 a (fun _ => ?_) (fun z => by omega))
      refine nr_x_second (by omega) ha ?_
      refine loop_0 (fun n i (w : Int32) => wX_denoteCost_58 post (nI p) (nI x) (nI ((a - 4) / 3)) (nI ((a - 4) % 3)) f_principals f_certSet f_grantSet f_openSet f_solved a_certOwner a_certName a_certPrincipal a_certPath a_grantOwner a_grantPrincipal a_grantPath a_costs a_settled a_reach a_trust a_before n w (nI i))
        (fun j w => w = nI (nr_e (nr_mq (fun q => m (nr_cell p ((a - 4) / 3) q) + m (nr_cell q ((a - 4) % 3) x)) j))) 6 1048576 rfl ?_ ?_
      · intro n w hI
        refine br_t (nI_le (Nat.le_refl 6) (by omega)) ?_
        rw [hI]; exact h
      · intro n q w hq hI hn
        have hc1 := nr_cell_lt (k := p) (d := (a - 4) / 3) (x := q) hp (by omega) hq
        have hc2 := nr_cell_lt (k := q) (d := (a - 4) % 3) (x := x) hq (by omega) hx
        obtain ⟨g1, g2⟩ := hC _ hc1
        obtain ⟨g3, g4⟩ := hC _ hc2
        have b1 := nr_e_b (m (nr_cell p ((a - 4) / 3) q))
        have b2 := nr_e_b (m (nr_cell q ((a - 4) % 3) x))
        have b4 := nr_mq_1000 (fun q => m (nr_cell p ((a - 4) / 3) q) + m (nr_cell q ((a - 4) % 3) x)) q
        have em : nr_mq (fun q => m (nr_cell p ((a - 4) / 3) q) + m (nr_cell q ((a - 4) % 3) x)) (q + 1) = min (nr_mq (fun q => m (nr_cell p ((a - 4) / 3) q) + m (nr_cell q ((a - 4) % 3) x)) q) (m (nr_cell p ((a - 4) / 3) q) + m (nr_cell q ((a - 4) % 3) x)) := rfl
        rw [hI]
        refine br_f (nI_ge (b := 6) hq (by omega)) ?_
        rw [nr_ce, nr_ce, nI_clamp (n := nr_cell p ((a - 4) / 3) q) (by omega), nI_clamp (n := nr_cell q ((a - 4) % 3) x) (by omega), g1, g3, nI_add]
        refine ⟨vp_in_nI hc1 (by omega), vp_in_nI hc2 (by omega), nm_e ?_⟩
        generalize nr_mq (fun q => m (nr_cell p ((a - 4) / 3) q) + m (nr_cell q ((a - 4) % 3) x)) q = L at *
        have b3 := nr_e_b L
        refine pk_lt 999 (nr_e (m (nr_cell p ((a - 4) / 3) q)) + nr_e (m (nr_cell q ((a - 4) % 3) x))) (fun hl y ey => ?_) (fun hl => ?_)
        · rw [ey, nI_1]
          refine hn _ ?_
          rw [em]
          refine congrArg (fun z => nI (nr_e z)) ?_
          unfold nr_e at hl
          split at hl <;> split at hl <;> omega
        · have l1 : m (nr_cell p ((a - 4) / 3) q) < 1000 := by
            apply Nat.lt_of_not_le; intro z; rw [nr_e_ge z] at hl; omega
          have l2 : m (nr_cell q ((a - 4) % 3) x) < 1000 := by
            apply Nat.lt_of_not_le; intro z; rw [nr_e_ge z] at hl; omega
          rw [nr_e_lt l1, nr_e_lt l2] at hl ⊢
          refine pk_le (nr_e L) (m (nr_cell p ((a - 4) / 3) q) + m (nr_cell q ((a - 4) % 3) x)) (fun hk y ey => ?_) (fun hk y ey => ?_)
          · rw [ey, nI_1]
            refine hn _ ?_
            rw [em]
            refine congrArg (fun z => nI (nr_e z)) ?_
            unfold nr_e at hk
            split at hk <;> omega
          · rw [ey, nI_1]
            refine hn _ ?_
            rw [em]
            have e5 : min L (m (nr_cell p ((a - 4) / 3) q) + m (nr_cell q ((a - 4) % 3) x)) = m (nr_cell p ((a - 4) / 3) q) + m (nr_cell q ((a - 4) % 3) x) := by
              unfold nr_e at hk
              split at hk <;> omega
            rw [e5, nr_e_lt (by omega)]
theorem nr_x_ms {post : Int32 → Prop} {m : Nat → Nat} {k d : Nat} (hC : nr_CA a_costs m) (hk : k < 6) (hd : d < 3) (h : ∀ r, (∀ i, i < 32 → (bt r i = true ↔ i < 6 ∧ m (nr_cell k d i) < 1000)) → post r) : wpX_memberSet post (f_principals, f_certSet, f_grantSet, f_openSet, f_solved, a_certOwner, a_certName, a_certPrincipal, a_certPath, a_grantOwner, a_grantPrincipal, a_grantPath, a_costs, a_settled, a_reach, a_trust, a_before) (nI k) (nI d) := by
  refine loop_0 (fun n i (w : Int32) => wX_memberSet_5 post (nI k) (nI d) f_principals f_certSet f_grantSet f_openSet f_solved a_certOwner a_certName a_certPrincipal a_certPath a_grantOwner a_grantPrincipal a_grantPath a_costs a_settled a_reach a_trust a_before n w (nI i))
    (fun j w => ∀ i, i < 32 → (bt w i = true ↔ i < j ∧ m (nr_cell k d i) < 1000)) 6 0 (fun i hi => by rw [b_0]; simp) ?_ ?_
  · intro n w hI
    exact br_t (nI_le (Nat.le_refl 6) (by omega)) (h w hI)
  · intro n x w hx hI hn
    have hcl := nr_cell_lt (k := k) (d := d) (x := x) hk hd hx
    obtain ⟨g1, g2⟩ := hC _ hcl
    have b1 := nr_e_b (m (nr_cell k d x))
    have far := nr_e_far (v := m (nr_cell k d x))
    refine br_f (nI_ge (b := 6) hx (by omega)) ?_
    rw [nr_ce, nI_clamp (n := nr_cell k d x) (by omega), g1]
    refine ⟨vp_in_nI hcl (by omega), pk_le 1048576 (nr_e (m (nr_cell k d x))) (fun hl y ey => ?_) (fun hl => nm_e (fun y ey => ?_))⟩
    · rw [ey, nI_1]
      refine hn w (fun i hi => ?_)
      rw [hI i hi]
      by_cases e : i = x
      · rw [e]; omega
      · omega
    · rw [ey, nI_1]
      refine hn _ (fun i hi => ?_)
      rw [nr_bset w (by omega) hi, hI i hi]
      by_cases e : i = x
      · rw [e]; omega
      · omega
end
end
section
theorem nr_10 : ¬ (1 : Int32) = 0 := by decide
def nr_YA (a : Nat → Int32) (m : Nat → Nat) : Prop := ∀ i, i < 108 → a i = nI (m i) ∧ m i ≤ 1000
theorem nr_YA_up {a : Nat → Int32} {m : Nat → Nat} {c v : Nat} (h : nr_YA a m) (hv : v ≤ 1000) : nr_YA (upd a c (nI v)) (nr_up m c v) := by
  intro i hi
  by_cases e : i = c
  · rw [e, pk_us, nr_up_s]; exact ⟨rfl, hv⟩
  · rw [pk_un e, nr_up_n e]; exact h i hi
theorem nr_YA_eq {a : Nat → Int32} {m m' : Nat → Nat} (h : nr_YA a m) (e : ∀ i, i < 108 → m i = m' i) : nr_YA a m' :=
  fun i hi => by rw [← e i hi]; exact h i hi
def nr_cY (n : Nat) (T : Nat → Prop) (W D P A : Nat → Nat) (fn : Int32) (aT aW aD aP aA : Nat → Int32) : Prop :=
  nr_CF n W D P A ∧ fn = nI n ∧ (∀ i, i < 10 → (aT i = 0 ↔ ¬ T i)) ∧ ∀ i, i < 10 → aW i = nI (W i) ∧ aD i = nI (D i) ∧ aP i = nI (P i) ∧ aA i = nI (A i)
section
variable {f_n : Int32} {a_there a_who a_name a_subject a_path a_given a_giver a_target a_targetPath a_open a_member a_near : Nat → Int32}
theorem nr_y_shown {post : Int32 → Prop} {m : Nat → Nat} {n p a x : Nat} (hn : f_n = nI n) (hn6 : n ≤ 6) (hC : nr_YA a_member m) (hp : p < 6) (ha : a ≤ 12) (hx : x < 6) (hhi : ∀ i, i < 108 → n ≤ i % 6 → m i = 1000)
    (h : post (nI (nr_sh m p a x))) : wpY_shown post (f_n, a_there, a_who, a_name, a_subject, a_path, a_given, a_giver, a_target, a_targetPath, a_open, a_member, a_near) (nI p) (nI a) (nI x) := by
  subst hn
  unfold wpY_shown
  dsimp only
  refine pk_eq a 0 (fun h0 => ?_) (fun h0 => ?_)
  · rw [nr_sh_0 h0] at h
    refine pk_eq p x (fun e => ?_) (fun e => ?_)
    · rw [if_pos e] at h; exact h
    · rw [if_neg e] at h; exact h
  · refine pk_le 4 a (fun h3 => ?_) (fun h3 => ?_)
    · rw [nr_sh_2 (by omega)] at h
      refine ⟨by decide, nm_r (e' := nI ((a - 4) / 3)) ?_ ⟨by decide, nm_r (e' := nI ((a - 4) % 3)) ?_ ?_⟩⟩
      · show (nI a - nI 4) / nI 3 = _
        rw [pk_sub (by omega), pk_div (by omega) (by omega) (by omega)]
      · show (nI a - nI 4) - (nI a - nI 4) / nI 3 * nI 3 = _
        rw [pk_sub (by omega), pk_rem (by omega) (by omega) (by omega)]
      refine loop_0 (fun l i (w : Int32) => wY_shown_62 post (nI p) (nI x) (nI ((a - 4) / 3)) (nI ((a - 4) % 3)) (nI n) a_there a_who a_name a_subject a_path a_given a_giver a_target a_targetPath a_open a_member a_near l w (nI i))
        (fun j w => w = nI (nr_mq (fun q => m (nr_cell p ((a - 4) / 3) q) + m (nr_cell q ((a - 4) % 3) x)) j)) n 1000 rfl ?_ ?_
      · intro l w hI
        refine br_t (nI_le (Nat.le_refl n) (by omega)) ?_
        rw [hI, nr_mq_cut hn6 (fun q h1 h2 => ?_)]
        · exact h
        · have := hhi (nr_cell p ((a - 4) / 3) q) (nr_cell_lt hp (by omega) h2) (by rw [nr_cell_x h2]; exact h1)
          omega
      · intro l q w hq hI hnx
        have hc1 := nr_cell_lt (k := p) (d := (a - 4) / 3) (x := q) hp (by omega) (by omega)
        have hc2 := nr_cell_lt (k := q) (d := (a - 4) % 3) (x := x) (by omega) (by omega) hx
        obtain ⟨g1, g2⟩ := hC _ hc1
        obtain ⟨g3, g4⟩ := hC _ hc2
        have b4 := nr_mq_1000 (fun q => m (nr_cell p ((a - 4) / 3) q) + m (nr_cell q ((a - 4) % 3) x)) q
        have em : nr_mq (fun q => m (nr_cell p ((a - 4) / 3) q) + m (nr_cell q ((a - 4) % 3) x)) (q + 1) = min (nr_mq (fun q => m (nr_cell p ((a - 4) / 3) q) + m (nr_cell q ((a - 4) % 3) x)) q) (m (nr_cell p ((a - 4) / 3) q) + m (nr_cell q ((a - 4) % 3) x)) := rfl
        rw [hI]
        refine br_f (nI_ge hq (by omega)) ?_
        rw [nr_cy, nr_cy, nI_clamp (n := nr_cell p ((a - 4) / 3) q) (by omega), nI_clamp (n := nr_cell q ((a - 4) % 3) x) (by omega), g1, g3, nI_add]
        refine ⟨vp_in_nI hc1 (by omega), vp_in_nI hc2 (by omega), nm_e ?_⟩
        generalize nr_mq (fun q => m (nr_cell p ((a - 4) / 3) q) + m (nr_cell q ((a - 4) % 3) x)) q = L at *
        refine pk_le L (m (nr_cell p ((a - 4) / 3) q) + m (nr_cell q ((a - 4) % 3) x)) (fun hk y ey => ?_) (fun hk y ey => ?_)
        · rw [ey, nI_1]
          refine hnx _ ?_
          rw [em, Nat.min_eq_left hk]
        · rw [ey, nI_1]
          refine hnx _ ?_
          rw [em, Nat.min_eq_right (by omega)]
    · rw [nr_sh_1 (by omega) (by omega)] at h
      have hcl := nr_cell_lt (k := p) (d := a - 1) (x := x) hp (by omega) hx
      rw [nr_cy1 p a x (by omega), nI_clamp (n := nr_cell p (a - 1) x) (by omega), (hC _ hcl).1]
      exact ⟨vp_in_nI hcl (by omega), h⟩
theorem nr_hhi {F m : Nat → Nat} {k n : Nat} {T : Nat → Prop} {W D P A : Nat → Nat} (hc : nr_CF n W D P A) (hF : nr_FN n T W D P A F) (hP : nr_PB 108 F k m) : ∀ i, i < 108 → n ≤ i % 6 → m i = 1000 := by
  intro i hi hx
  have h1 := nr_FN_hi hc hF hi hx
  have h2 := hP.1 i hi
  omega
theorem nr_y_lower {post : Int32 → SY → Prop} {F m : Nat → Nat} {k id : Nat} {n : Nat} {T : Nat → Prop} {W D P A : Nat → Nat} (hY : nr_cY n T W D P A f_n a_there a_who a_name a_subject a_path) (hid : id < 10) (hT : T id) (hF : nr_FN n T W D P A F) (hP : nr_PB 108 F k m) (hC : nr_YA a_member m)
    (h : ∀ b a' m', nr_YA a' m' → nr_PB 108 F k m' → (∀ i, m' i ≤ m i) → (∀ x, x < n → nr_PP 108 (nr_t W D) (nr_v P A) F k m' (id, x)) → (b = 0 → m' = m ∧ ∀ x, x < n → m (nr_t W D (id, x)) ≤ nr_v P A (id, x) m) → post b (f_n, a_there, a_who, a_name, a_subject, a_path, a_given, a_giver, a_target, a_targetPath, a_open, a', a_near)) :
    wpY_lower post (f_n, a_there, a_who, a_name, a_subject, a_path, a_given, a_giver, a_target, a_targetPath, a_open, a_member, a_near) (nI id) := by
  obtain ⟨hc, hfn, hTT, hA⟩ := hY
  subst hfn
  have hb := hc.2.2 id hid
  obtain ⟨e1, e2, e3, e4⟩ := hA id hid
  have hn6 := hc.2.1
  have hin : vp_in (nI id) 10 := vp_in_nI hid (by omega)
  have hcl : (nI id).toNatClampNeg = id := nI_clamp (by omega)
  refine loop_0 (fun l i (w : Int32 × (Nat → Int32) × (Nat → Nat)) => wY_lower_4 post (nI id) (nI n) l w.1 (nI i) a_there a_who a_name a_subject a_path a_given a_giver a_target a_targetPath a_open w.2.1 a_near)
    (fun x w => (w.1 = 0 ∨ w.1 = 1) ∧ nr_YA w.2.1 w.2.2 ∧ nr_PB 108 F k w.2.2 ∧ (∀ i, w.2.2 i ≤ m i) ∧ (∀ x', x' < x → nr_PP 108 (nr_t W D) (nr_v P A) F k w.2.2 (id, x')) ∧ (w.1 = 0 → w.2.2 = m ∧ ∀ x', x' < x → m (nr_t W D (id, x')) ≤ nr_v P A (id, x') m)) n (0, a_member, m)
    ⟨Or.inl rfl, hC, hP, fun _ => Nat.le_refl _, fun x hx => absurd hx (by omega), fun _ => ⟨rfl, fun x hx => absurd hx (by omega)⟩⟩ ?_ ?_
  · intro l w hI
    obtain ⟨b, a, m'⟩ := w
    dsimp only at hI ⊢
    obtain ⟨i1, i2, i3, i4, i5, i6⟩ := hI
    refine br_t (nI_le (Nat.le_refl n) (by omega)) ⟨?_, h b a m' i2 i3 i4 i5 i6⟩
    rcases i1 with z | z
    · have z : b = 0 := z
      rw [z]; rfl
    · have z : b = 1 := z
      rw [z]; rfl
  · intro l x w hx hI hnx
    obtain ⟨b, a, m'⟩ := w
    dsimp only at hI ⊢
    obtain ⟨i1, i2, i3, i4, i5, i6⟩ := hI
    have hr : nr_E n T (id, x) := ⟨hid, hT, hx⟩
    have ht : nr_t W D (id, x) < 108 := nr_tN hc _ hr
    have lw := nr_low (nr_MN hc) (nr_SN hc) hF i3 hr
    have hsh := nr_sh_le (m := m') (p := P id) (a := A id) (x := x) (by omega) (by omega) (by omega) (fun i hi => (i3.1 i hi).2)
    have hv1 : nr_v P A (id, x) m' ≤ 1001 := by unfold nr_v; dsimp only; omega
    obtain ⟨g1, g2⟩ := i2 _ ht
    refine br_f (nI_ge hx (by omega)) ⟨hin, hin, ?_⟩
    rw [hcl, e1, e2, e3, e4]
    refine nr_y_shown rfl hn6 i2 (by omega) (by omega) (by omega) (nr_hhi hc hF i3) ?_
    refine nm_r (e' := nI (nr_v P A (id, x) m')) (nI_add 1 _) ⟨hin, hin, nm_r (e' := nI (nr_t W D (id, x))) (nr_cy _ _ _) ⟨vp_in_nI ht (by omega), ?_⟩⟩
    rw [nI_clamp (n := nr_t W D (id, x)) (by omega), g1]
    refine pk_le (m' (nr_t W D (id, x))) (nr_v P A (id, x) m') (fun hl y ey => ?_) (fun hl => ⟨vp_in_nI ht (by omega), nm_e (fun y ey => ?_)⟩)
    · rw [ey, nI_1]
      refine hnx (b, a, m') ⟨i1, i2, i3, i4, lt_s i5 (fun q1 q2 q3 => Nat.le_trans hl (lw.2 q1 q2 q3)), fun z => ?_⟩
      obtain ⟨z1, z2⟩ := i6 z
      have z1 : m' = m := z1
      exact ⟨z1, lt_s z2 (by rw [← z1]; exact hl)⟩
    · rw [ey, nI_1]
      have le := nr_up_le (m := m') (c := nr_t W D (id, x)) (v := nr_v P A (id, x) m') (by omega)
      refine hnx (1, upd a (nr_t W D (id, x)) (nI (nr_v P A (id, x) m')), nr_up m' (nr_t W D (id, x)) (nr_v P A (id, x) m')) ⟨Or.inr rfl, nr_YA_up i2 (by omega), nr_PB_up (nr_MN hc) (nr_SN hc) hF i3 hr (by omega), fun i => Nat.le_trans (le i) (i4 i), lt_s (fun x' hx' => nr_PP_le (i5 x' hx') (le _)) (fun q1 q2 q3 => ?_), fun z => absurd z nr_10⟩
      show nr_up m' (nr_t W D (id, x)) (nr_v P A (id, x) m') (nr_t W D (id, x)) ≤ _
      rw [nr_up_s]; exact lw.2 q1 q2 q3
theorem nr_y_w41 {post : SY → Prop} {J : Int32 → Int32 → Int32 → (Nat → Int32) → (Nat → Int32) → (Nat → Int32) → (Nat → Int32) → (Nat → Int32) → (Nat → Int32) → (Nat → Int32) → (Nat → Int32) → (Nat → Int32) → (Nat → Int32) → (Nat → Int32) → (Nat → Int32) → Prop} {F m : Nat → Nat} {k : Nat} {n : Nat} {T : Nat → Prop} {W D P A : Nat → Nat} (hY : nr_cY n T W D P A f_n a_there a_who a_name a_subject a_path) (hk : k < 110) (hF : nr_FN n T W D P A F) (hP : nr_PB 108 F k m) (hC : nr_YA a_member m)
    (h : ∀ b a' m', (b = 0 ∨ b = 1) → nr_YA a' m' → nr_PB 108 F (k + 1) m' → (b = 0 → ∀ i, i < 108 → m' i = F i) → J b (nI (k + 1)) f_n a_there a_who a_name a_subject a_path a_given a_giver a_target a_targetPath a_open a' a_near) :
    ∃ l, wY_work_41 post J (nI k) l 0 0 f_n a_there a_who a_name a_subject a_path a_given a_giver a_target a_targetPath a_open a_member a_near := by
  have hc := hY.1
  have hTT := hY.2.2.1
  refine loop_0 (fun l i (w : Int32 × (Nat → Int32) × (Nat → Nat)) => wY_work_41 post J (nI k) l w.1 (nI i) f_n a_there a_who a_name a_subject a_path a_given a_giver a_target a_targetPath a_open w.2.1 a_near)
    (fun j w => (w.1 = 0 ∨ w.1 = 1) ∧ nr_YA w.2.1 w.2.2 ∧ nr_PB 108 F k w.2.2 ∧ (∀ id, id < j → T id → ∀ x, x < n → nr_PP 108 (nr_t W D) (nr_v P A) F k w.2.2 (id, x)) ∧ (w.1 = 0 → w.2.2 = m ∧ ∀ id, id < j → T id → ∀ x, x < n → m (nr_t W D (id, x)) ≤ nr_v P A (id, x) m)) 10 (0, a_member, m)
    ⟨Or.inl rfl, hC, hP, fun x hx => absurd hx (by omega), fun _ => ⟨rfl, fun x hx => absurd hx (by omega)⟩⟩ ?_ ?_
  · intro l w hI
    obtain ⟨b, a, m'⟩ := w
    dsimp only at hI ⊢
    obtain ⟨i1, i2, i3, i4, i5⟩ := hI
    refine br_t (nI_le (Nat.le_refl 10) (by omega)) (nm_r (nI_1 k) (h b a m' i1 i2 (nr_pass hF i3 (fun r hr => i4 r.1 hr.1 hr.2.1 r.2 hr.2.2)) (fun z => ?_)))
    obtain ⟨z1, z2⟩ := i5 z
    have z1 : m' = m := z1
    rw [z1]
    exact nr_PB_clo (nr_SN hc) hF hP (fun r hr => z2 r.1 hr.1 hr.2.1 r.2 hr.2.2)
  · intro l id w hid hI hn
    obtain ⟨b, a, m'⟩ := w
    dsimp only at hI ⊢
    obtain ⟨i1, i2, i3, i4, i5⟩ := hI
    have hin : vp_in (nI id) 10 := vp_in_nI hid (by omega)
    have hcl : (nI id).toNatClampNeg = id := nI_clamp (by omega)
    have join : ∀ a' m', nr_YA a' m' → nr_PB 108 F k m' → (∀ id', id' < id + 1 → T id' → ∀ x, x < n → nr_PP 108 (nr_t W D) (nr_v P A) F k m' (id', x)) → (b = 0 → m' = m ∧ ∀ id', id' < id + 1 → T id' → ∀ x, x < n → m (nr_t W D (id', x)) ≤ nr_v P A (id', x) m) → wY_work_64 post J (wY_work_41 post J (nI k) l) b (nI k) (nI id) f_n a_there a_who a_name a_subject a_path a_given a_giver a_target a_targetPath a_open a' a_near := by
      intro a' m' h1 h2 h3 h4
      rcases i1 with z | z
      · have z : b = 0 := z
        refine br_t z (nm_r (nI_1 id) (hn (0, a', m') ⟨Or.inl rfl, h1, h2, h3, fun _ => h4 z⟩))
      · have z : b = 1 := z
        refine br_f (by rw [z]; decide) (nm_r (nI_1 id) (hn (1, a', m') ⟨Or.inr rfl, h1, h2, h3, fun w => absurd w nr_10⟩))
    refine br_f (nI_ge (b := 10) hid (by omega)) ⟨hin, ?_⟩
    rw [hcl]
    refine br_c (fun z => ?_) (fun z => ?_)
    · rw [hTT id hid] at z
      exact join a m' i2 i3 (lt_s i4 (fun w => absurd w z)) (fun w => ⟨(i5 w).1, lt_s (i5 w).2 (fun w => absurd w z)⟩)
    · rw [hTT id hid] at z
      have hT := Classical.not_not.mp z
      refine nr_y_lower hY hid hT hF i3 i2 (fun c a' m2 h1 h2 h3 h4 h5 => ?_)
      have h6 : ∀ id', id' < id + 1 → T id' → ∀ x, x < n → nr_PP 108 (nr_t W D) (nr_v P A) F k m2 (id', x) := lt_s (fun j hj hj2 x hx => nr_PP_le (i4 j hj hj2 x hx) (h3 _)) (fun _ => h4)
      refine br_c (fun zc => ?_) (fun zc => ?_)
      · obtain ⟨k1, k2⟩ := h5 zc
        refine join a' m2 h1 h2 h6 (fun w => ?_)
        obtain ⟨k3, k4⟩ := i5 w
        have k3 : m' = m := k3
        rw [k3] at k1 k2
        exact ⟨k1, lt_s k4 (fun _ => k2)⟩
      · exact nm_r (nI_1 id) (hn (1, a', m2) ⟨Or.inr rfl, h1, h2, h6, fun w => absurd w nr_10⟩)
theorem nr_y_work {post : SY → Prop} {F : Nat → Nat} {n : Nat} {T : Nat → Prop} {W D P A : Nat → Nat} (hY : nr_cY n T W D P A f_n a_there a_who a_name a_subject a_path) (hF : nr_FN n T W D P A F) (h : ∀ a, nr_YA a F → post (f_n, a_there, a_who, a_name, a_subject, a_path, a_given, a_giver, a_target, a_targetPath, a_open, a, a_near)) : wpY_work post (f_n, a_there, a_who, a_name, a_subject, a_path, a_given, a_giver, a_target, a_targetPath, a_open, a_member, a_near) := by
  refine loop_0 (fun l i (w : Nat → Int32) => wY_work_2 post f_n l (nI i) a_there a_who a_name a_subject a_path a_given a_giver a_target a_targetPath a_open w a_near) (fun j w => ∀ i, i < j → w i = 1000) 108 a_member (fun i hi => absurd hi (by omega)) ?_ ?_
  · intro l w hI
    refine br_t (nI_le (Nat.le_refl 108) (by omega)) ?_
    refine loop_0 (fun l i (w : Int32 × (Nat → Int32) × (Nat → Nat)) => wY_work_27 post l w.1 (nI i) f_n a_there a_who a_name a_subject a_path a_given a_giver a_target a_targetPath a_open w.2.1 a_near)
      (fun k w => (w.1 = 0 ∨ w.1 = 1) ∧ nr_YA w.2.1 w.2.2 ∧ nr_PB 108 F k w.2.2 ∧ (w.1 = 0 → ∀ i, i < 108 → w.2.2 i = F i)) 110 (1, w, fun _ => 1000)
      ⟨Or.inr rfl, fun i hi => ⟨hI i hi, Nat.le_refl _⟩, nr_PB_0 hF (fun _ _ => rfl), fun z => absurd z nr_10⟩ ?_ ?_
    · intro l w hI
      obtain ⟨b, a, m'⟩ := w
      dsimp only at hI ⊢
      obtain ⟨i1, i2, i3, i4⟩ := hI
      exact br_t (nI_le (Nat.le_refl 110) (by omega)) (h a (nr_YA_eq i2 (nr_PB_all i3 (by omega))))
    · intro l k w hk hI hn
      obtain ⟨b, a, m'⟩ := w
      dsimp only at hI ⊢
      obtain ⟨i1, i2, i3, i4⟩ := hI
      refine br_f (nI_ge (b := 110) hk (by omega)) (br_c (fun z => h a (nr_YA_eq i2 (i4 z))) (fun z => ?_))
      exact nr_y_w41 hY hk hF i3 i2 (fun b a' m2 h1 h2 h3 h4 => hn (b, a', m2) ⟨h1, h2, h3, h4⟩)
  · intro l i w hi hI hn
    have hin : vp_in (nI i) 108 := vp_in_nI hi (by omega)
    have hcl : (nI i).toNatClampNeg = i := nI_clamp (by omega)
    refine br_f (nI_ge (b := 108) hi (by omega)) ⟨hin, nm_r (e' := upd w i 1000) (by rw [hcl]) (nm_r (nI_1 i) ?_)⟩
    refine hn (upd w i 1000) (fun j hj => ?_)
    by_cases e : j = i
    · rw [e]; exact pk_us
    · rw [pk_un e]; exact hI j (by omega)
end
end
section
/-! the relation -/
def nr_gX (n : Nat) (G O : Nat → Prop) (U V B : Nat → Nat) (fg fo : Int32) (aU aV aB : Nat → Int32) : Prop :=
  (∀ i, i < 6 → U i < n ∧ V i < n ∧ B i ≤ 12) ∧ (∀ i, i < 6 → (bt fg i = true ↔ G i)) ∧ (∀ i, i < 6 → G i → (bt fo i = true ↔ O i)) ∧ ∀ i, i < 6 → aU i = nI (U i) ∧ aV i = nI (V i) ∧ aB i = nI (B i)
def nr_gY (n : Nat) (G O : Nat → Prop) (U V B : Nat → Nat) (aG aO aU aV aB : Nat → Int32) : Prop :=
  (∀ i, i < 6 → U i < n ∧ V i < n ∧ B i ≤ 12) ∧ (∀ i, i < 6 → (aG i = 0 ↔ ¬ G i)) ∧ (∀ i, i < 6 → G i → (aO i = 0 ↔ ¬ O i)) ∧ ∀ i, i < 6 → aU i = nI (U i) ∧ aV i = nI (V i) ∧ aB i = nI (B i)
def nr_R (f_principals f_certSet f_grantSet f_openSet f_solved : Int32) (a_certOwner a_certName a_certPrincipal a_certPath a_grantOwner a_grantPrincipal a_grantPath a_costs : Nat → Int32)
    (f_n : Int32) (a_there a_who a_name a_subject a_path a_given a_giver a_target a_targetPath a_open : Nat → Int32) : Prop :=
  ∃ (n : Nat) (T : Nat → Prop) (W D P A : Nat → Nat) (G O : Nat → Prop) (U V B : Nat → Nat), f_principals = nI n
    ∧ nr_cX n T W D P A f_certSet a_certOwner a_certName a_certPrincipal a_certPath ∧ nr_cY n T W D P A f_n a_there a_who a_name a_subject a_path ∧ (∀ i, i < 32 → 10 ≤ i → ¬ bt f_certSet i = true)
    ∧ nr_gX n G O U V B f_grantSet f_openSet a_grantOwner a_grantPrincipal a_grantPath ∧ nr_gY n G O U V B a_given a_open a_giver a_target a_targetPath ∧ (∀ i, i < 32 → 6 ≤ i → ¬ bt f_grantSet i = true)
    ∧ (¬ f_solved = 0 → ∀ F, nr_FN n T W D P A F → nr_CA a_costs F)
def i_Rel (_ : Nat) (u : SX) (v : SY) : Prop := match u, v with
  | (f_principals, f_certSet, f_grantSet, f_openSet, f_solved, a_certOwner, a_certName, a_certPrincipal, a_certPath, a_grantOwner, a_grantPrincipal, a_grantPath, a_costs, a_settled, a_reach, a_trust, a_before), (f_n, a_there, a_who, a_name, a_subject, a_path, a_given, a_giver, a_target, a_targetPath, a_open, a_member, a_near) => nr_R f_principals f_certSet f_grantSet f_openSet f_solved a_certOwner a_certName a_certPrincipal a_certPath a_grantOwner a_grantPrincipal a_grantPath a_costs f_n a_there a_who a_name a_subject a_path a_given a_giver a_target a_targetPath a_open
theorem i_up {k : Nat} {u : SX} {v : SY} (h : i_Rel k u v) : i_Rel (k + 5) u v := h
theorem nr_zero {j : Nat} (h1 : 1 ≤ j) (h6 : j ≤ 6) : nr_R (nI j) 0 0 0 0 (fun _ => 0) (fun _ => 0) (fun _ => 0) (fun _ => 0) (fun _ => 0) (fun _ => 0) (fun _ => 0) (fun _ => 0) (nI j) (fun _ => 0) (fun _ => 0) (fun _ => 0) (fun _ => 0) (fun _ => 0) (fun _ => 0) (fun _ => 0) (fun _ => 0) (fun _ => 0) (fun _ => 0) := by
  have hc : nr_CF j (fun _ => 0) (fun _ => 0) (fun _ => 0) (fun _ => 0) := ⟨h1, h6, fun i _ => by dsimp only; omega⟩
  have hg : ∀ i, i < 6 → (fun _ : Nat => 0) i < j ∧ (fun _ : Nat => 0) i < j ∧ (fun _ : Nat => 0) i ≤ 12 := fun i _ => by dsimp only; omega
  exact ⟨j, fun _ => False, fun _ => 0, fun _ => 0, fun _ => 0, fun _ => 0, fun _ => False, fun _ => False, fun _ => 0, fun _ => 0, fun _ => 0, rfl,
    ⟨hc, fun i _ => by rw [b_0]; simp, fun i _ => ⟨rfl, rfl, rfl, rfl⟩⟩, ⟨hc, rfl, fun i _ => by simp, fun i _ => ⟨rfl, rfl, rfl, rfl⟩⟩, fun i _ _ => by rw [b_0]; simp,
    ⟨hg, fun i _ => by rw [b_0]; simp, fun i _ z => absurd z id, fun i _ => ⟨rfl, rfl, rfl⟩⟩, ⟨hg, fun i _ => by simp, fun i _ z => absurd z id, fun i _ => ⟨rfl, rfl, rfl⟩⟩, fun i _ _ => by rw [b_0]; simp,
    fun z => absurd rfl z⟩
theorem i_vc0 (k0 : Int32) : wpX_init (fun u => wpY_init (fun v => i_Rel 1 u v) k0) k0 := by
  refine br_c (fun h1 => br_c (fun h6 => ?_) (fun h6 => ?_)) (fun h1 => ?_)
  · refine br_t h1 (br_t h6 ?_)
    obtain ⟨j, hj, rfl⟩ := nI_of2 (x := k0) (M := 6) (n := 6) (by decide) (Int32.not_lt.mpr (Int32.le_trans (by decide) h1)) h6
    have : 1 ≤ j := (nI_leI (a := 1) (by omega) (by omega)).mp h1
    exact nr_zero this hj
  · exact br_t h1 (br_f h6 (nr_zero (j := 6) (by omega) (by omega)))
  · exact br_f h1 (nr_zero (j := 1) (by omega) (by omega))
/-! arguments within a range or not -/
def nr_PR (N : Nat) (v : Int32) : Prop := ∃ j, j < N ∧ v = nI j
theorem nr_PR_n {N : Nat} {v : Int32} (hN : N < 2 ^ 31) (h : ¬ nr_PR N v) : v < 0 ∨ (¬ v < 0 ∧ nI N ≤ v) := by
  by_cases z : v < 0
  · exact Or.inl z
  · rcases pk_ix v hN with g | g | g
    · exact Or.inl g
    · exact Or.inr ⟨z, g⟩
    · exact absurd g h
theorem nr_lt_of {N : Nat} {v : Int32} (hN : N < 2 ^ 30) (h : nI (N + 1) ≤ v) : nI N < v ∧ ¬ v ≤ nI N := by
  rw [Int32.le_iff_toInt_le, nI_toInt (by omega)] at h
  rw [Int32.lt_iff_toInt_lt, Int32.le_iff_toInt_le, nI_toInt (by omega)]
  omega
theorem nr_r2t {A B : Prop} {j : Nat} (h : j < 3) (b : B) : (nI j < 0 → A) ∧ (¬ nI j < 0 → ((2 < nI j → A) ∧ (¬ 2 < nI j → B))) :=
  br_f (nI_pos (by omega)) (br_f (nI_nlt (b := j) (a := 2) (by omega) (by omega)) b)
theorem nr_r2f {A B : Prop} {v : Int32} (h : ¬ nr_PR 3 v) (a : A) : (v < 0 → A) ∧ (¬ v < 0 → ((2 < v → A) ∧ (¬ 2 < v → B))) := by
  rcases nr_PR_n (by omega) h with g | ⟨g, g2⟩
  · exact br_t g a
  · exact br_f g (br_t (nr_lt_of (N := 2) (by omega) g2).1 a)
theorem nr_l2t {A B : Prop} {j : Nat} (h : j < 3) (b : B) : (nI j < 0 → A) ∧ (¬ nI j < 0 → ((nI j ≤ 2 → B) ∧ (¬ nI j ≤ 2 → A))) :=
  br_f (nI_pos (by omega)) (br_t (nI_le (a := j) (b := 2) (by omega) (by omega)) b)
theorem nr_l2f {A B : Prop} {v : Int32} (h : ¬ nr_PR 3 v) (a : A) : (v < 0 → A) ∧ (¬ v < 0 → ((v ≤ 2 → B) ∧ (¬ v ≤ 2 → A))) := by
  rcases nr_PR_n (by omega) h with g | ⟨g, g2⟩
  · exact br_t g a
  · exact br_f g (br_f (nr_lt_of (N := 2) (by omega) g2).2 a)
theorem nr_l12t {A B : Prop} {j : Nat} (h : j < 13) (b : B) : (nI j < 0 → A) ∧ (¬ nI j < 0 → ((nI j ≤ 12 → B) ∧ (¬ nI j ≤ 12 → A))) :=
  br_f (nI_pos (by omega)) (br_t (nI_le (a := j) (b := 12) (by omega) (by omega)) b)
theorem nr_l12f {A B : Prop} {v : Int32} (h : ¬ nr_PR 13 v) (a : A) : (v < 0 → A) ∧ (¬ v < 0 → ((v ≤ 12 → B) ∧ (¬ v ≤ 12 → A))) := by
  rcases nr_PR_n (by omega) h with g | ⟨g, g2⟩
  · exact br_t g a
  · exact br_f g (br_f (nr_lt_of (N := 12) (by omega) g2).2 a)
theorem nr_r9t {A B : Prop} {j : Nat} (h : j < 10) (b : B) : (nI j < 0 → A) ∧ (¬ nI j < 0 → ((9 < nI j → A) ∧ (¬ 9 < nI j → B))) :=
  br_f (nI_pos (by omega)) (br_f (nI_nlt (b := j) (a := 9) (by omega) (by omega)) b)
theorem nr_r9f {A B : Prop} {v : Int32} (h : ¬ nr_PR 10 v) (a : A) : (v < 0 → A) ∧ (¬ v < 0 → ((9 < v → A) ∧ (¬ 9 < v → B))) := by
  rcases nr_PR_n (by omega) h with g | ⟨g, g2⟩
  · exact br_t g a
  · exact br_f g (br_t (nr_lt_of (N := 9) (by omega) g2).1 a)
theorem nr_r5t {A B : Prop} {j : Nat} (h : j < 6) (b : B) : (nI j < 0 → A) ∧ (¬ nI j < 0 → ((5 < nI j → A) ∧ (¬ 5 < nI j → B))) :=
  br_f (nI_pos (by omega)) (br_f (nI_nlt (b := j) (a := 5) (by omega) (by omega)) b)
theorem nr_r5f {A B : Prop} {v : Int32} (h : ¬ nr_PR 6 v) (a : A) : (v < 0 → A) ∧ (¬ v < 0 → ((5 < v → A) ∧ (¬ 5 < v → B))) := by
  rcases nr_PR_n (by omega) h with g | ⟨g, g2⟩
  · exact br_t g a
  · exact br_f g (br_t (nr_lt_of (N := 5) (by omega) g2).1 a)
section
variable {f_principals f_certSet f_grantSet f_openSet f_solved : Int32} {a_certOwner a_certName a_certPrincipal a_certPath a_grantOwner a_grantPrincipal a_grantPath a_costs a_settled a_reach a_trust a_before : Nat → Int32}
variable {f_n : Int32} {a_there a_who a_name a_subject a_path a_given a_giver a_target a_targetPath a_open a_member a_near : Nat → Int32}
theorem nr_x_P1 {post : Int32 → Prop} {n j : Nat} (hp : f_principals = nI n) (hn : n ≤ 6) (hj : j < n) (h : post 1) : wpX_isPrincipal post (f_principals, f_certSet, f_grantSet, f_openSet, f_solved, a_certOwner, a_certName, a_certPrincipal, a_certPath, a_grantOwner, a_grantPrincipal, a_grantPath, a_costs, a_settled, a_reach, a_trust, a_before) (nI j) := by
  subst hp
  exact br_f (nI_pos (by omega)) (br_f (nI_ge hj (by omega)) h)
theorem nr_x_P0 {post : Int32 → Prop} {n : Nat} {v : Int32} (hp : f_principals = nI n) (hn : n ≤ 6) (hv : ¬ nr_PR n v) (h : post 0) : wpX_isPrincipal post (f_principals, f_certSet, f_grantSet, f_openSet, f_solved, a_certOwner, a_certName, a_certPrincipal, a_certPath, a_grantOwner, a_grantPrincipal, a_grantPath, a_costs, a_settled, a_reach, a_trust, a_before) v := by
  subst hp
  rcases nr_PR_n (by omega) hv with g | ⟨g, g2⟩
  · exact br_t g h
  · exact br_f g (br_t g2 h)
theorem nr_y_P1 {post : Int32 → Prop} {n j : Nat} (hp : f_n = nI n) (hn : n ≤ 6) (hj : j < n) (h : post 1) : wpY_principal post (f_n, a_there, a_who, a_name, a_subject, a_path, a_given, a_giver, a_target, a_targetPath, a_open, a_member, a_near) (nI j) := by
  subst hp
  exact br_f (nI_pos (by omega)) (br_f (nI_ge hj (by omega)) h)
theorem nr_y_P0 {post : Int32 → Prop} {n : Nat} {v : Int32} (hp : f_n = nI n) (hn : n ≤ 6) (hv : ¬ nr_PR n v) (h : post 0) : wpY_principal post (f_n, a_there, a_who, a_name, a_subject, a_path, a_given, a_giver, a_target, a_targetPath, a_open, a_member, a_near) v := by
  subst hp
  rcases nr_PR_n (by omega) hv with g | ⟨g, g2⟩
  · exact br_t g h
  · exact br_f g (br_t g2 h)
theorem nr_x_N1 {post : Int32 → Prop} {j : Nat} (hj : j < 3) (h : post 1) : wpX_isName post (nI j) :=
  br_f (nI_pos (by omega)) (br_f (nI_ge (b := 3) hj (by omega)) h)
theorem nr_x_N0 {post : Int32 → Prop} {v : Int32} (hv : ¬ nr_PR 3 v) (h : post 0) : wpX_isName post v := by
  rcases nr_PR_n (by omega) hv with g | ⟨g, g2⟩
  · exact br_t g h
  · exact br_f g (br_t g2 h)
theorem nr_x_A1 {post : Int32 → Prop} {j : Nat} (hj : j < 13) (h : post 1) : wpX_isPath post (nI j) :=
  br_f (nI_pos (by omega)) (br_f (nI_nlt (b := j) (a := 12) (by omega) (by omega)) h)
theorem nr_x_A0 {post : Int32 → Prop} {v : Int32} (hv : ¬ nr_PR 13 v) (h : post 0) : wpX_isPath post v := by
  rcases nr_PR_n (by omega) hv with g | ⟨g, g2⟩
  · exact br_t g h
  · exact br_f g (br_t (nr_lt_of (N := 12) (by omega) g2).1 h)
theorem nr_x_has0 {post : Int32 → Prop} {v : Int32} (hv : ¬ nr_PR 10 v) (h : post 0) : wpX_hasCert post (f_principals, f_certSet, f_grantSet, f_openSet, f_solved, a_certOwner, a_certName, a_certPrincipal, a_certPath, a_grantOwner, a_grantPrincipal, a_grantPath, a_costs, a_settled, a_reach, a_trust, a_before) v := by
  rcases nr_PR_n (by omega) hv with g | ⟨g, g2⟩
  · exact br_t g h
  · exact br_f g (br_t g2 h)
end
end
section
theorem nr_byte0 : ∀ k, k < 64 → (nI k).toInt8.toInt32 = nI k := by decide +kernel
theorem nr_byte {k : Nat} (h : k < 64) : vp_nar .byte (nI k).toInt8.toInt32 = nI k := by rw [pk_vb, nr_byte0 k h]
theorem nr_ua {a : Nat → Int32} {W : Nat → Nat} {i j k : Nat} (h : a i = nI (W i)) : upd a j (nI k) i = nI (nr_up W j k i) := by
  by_cases e : i = j
  · rw [e, pk_us, nr_up_s]
  · rw [pk_un e, nr_up_n e, h]
section
variable {f_principals f_certSet f_grantSet f_openSet f_solved : Int32} {a_certOwner a_certName a_certPrincipal a_certPath a_grantOwner a_grantPrincipal a_grantPath a_costs a_settled a_reach a_trust a_before : Nat → Int32}
variable {f_n : Int32} {a_there a_who a_name a_subject a_path a_given a_giver a_target a_targetPath a_open a_member a_near : Nat → Int32}
theorem nr_x_c36 {post : Int32 → SX → Prop} {v1 v2 v3 v4 : Int32} {n : Nat} {T : Nat → Prop} {W D P A : Nat → Nat} (hX : nr_cX n T W D P A f_certSet a_certOwner a_certName a_certPrincipal a_certPath)
    (h1 : ∀ j, j < 10 → ¬ T j → (∀ i, i < j → T i) → post (nI j) (f_principals, f_certSet ||| ((1 : Int32) <<< (nI j &&& 31)), f_grantSet, f_openSet, 0, upd a_certOwner j (vp_nar .byte v1.toInt8.toInt32), upd a_certName j (vp_nar .byte v2.toInt8.toInt32), upd a_certPrincipal j (vp_nar .byte v3.toInt8.toInt32), upd a_certPath j (vp_nar .byte v4.toInt8.toInt32), a_grantOwner, a_grantPrincipal, a_grantPath, a_costs, a_settled, a_reach, a_trust, a_before))
    (h0 : (∀ i, i < 10 → T i) → post (-2) (f_principals, f_certSet, f_grantSet, f_openSet, f_solved, a_certOwner, a_certName, a_certPrincipal, a_certPath, a_grantOwner, a_grantPrincipal, a_grantPath, a_costs, a_settled, a_reach, a_trust, a_before)) : ∃ l, wX_certify_36 post v1 v2 v3 v4 f_principals f_certSet f_grantSet f_openSet f_solved a_certOwner a_certName a_certPrincipal a_certPath a_grantOwner a_grantPrincipal a_grantPath a_costs a_settled a_reach a_trust a_before l 0 := by
  refine loop_0 (fun l i (_ : Unit) => wX_certify_36 post v1 v2 v3 v4 f_principals f_certSet f_grantSet f_openSet f_solved a_certOwner a_certName a_certPrincipal a_certPath a_grantOwner a_grantPrincipal a_grantPath a_costs a_settled a_reach a_trust a_before l (nI i)) (fun j _ => ∀ i, i < j → T i) 10 () (fun i hi => absurd hi (by omega)) ?_ ?_
  · intro l _ hI
    exact br_t (nI_le (Nat.le_refl 10) (by omega)) (h0 hI)
  · intro l j _ hj hI hn
    have hin : vp_in (nI j) 10 := vp_in_nI hj (by omega)
    have hcl : (nI j).toNatClampNeg = j := nI_clamp (by omega)
    refine br_f (nI_ge (b := 10) hj (by omega)) (br_c (fun z => ?_) (fun z => nm_r (nI_1 j) (hn () (lt_s hI ?_))))
    · rw [nr_bit _ (by omega), hX.2.1 j hj] at z
      rw [hcl]
      exact ⟨hin, nm_e ⟨hin, nm_e ⟨hin, nm_e ⟨hin, nm_e (nm_e (h1 j hj z hI))⟩⟩⟩⟩
    · rw [nr_bit _ (by omega), hX.2.1 j hj] at z
      exact Classical.not_not.mp z
theorem nr_y_c42 {post : Int32 → SY → Prop} {v1 v2 v3 v4 : Int32} {n : Nat} {T : Nat → Prop} {W D P A : Nat → Nat} (hY : nr_cY n T W D P A f_n a_there a_who a_name a_subject a_path)
    (h1 : ∀ j, j < 10 → ¬ T j → (∀ i, i < j → T i) → post (nI j) (f_n, upd a_there j 1, upd a_who j v1, upd a_name j v2, upd a_subject j v3, upd a_path j v4, a_given, a_giver, a_target, a_targetPath, a_open, a_member, a_near))
    (h0 : (∀ i, i < 10 → T i) → post (-2) (f_n, a_there, a_who, a_name, a_subject, a_path, a_given, a_giver, a_target, a_targetPath, a_open, a_member, a_near)) : ∃ l, wY_certify_42 post v1 v2 v3 v4 f_n a_there a_who a_name a_subject a_path a_given a_giver a_target a_targetPath a_open a_member a_near l 0 := by
  refine loop_0 (fun l i (_ : Unit) => wY_certify_42 post v1 v2 v3 v4 f_n a_there a_who a_name a_subject a_path a_given a_giver a_target a_targetPath a_open a_member a_near l (nI i)) (fun j _ => ∀ i, i < j → T i) 10 () (fun i hi => absurd hi (by omega)) ?_ ?_
  · intro l _ hI
    exact br_t (nI_le (Nat.le_refl 10) (by omega)) (h0 hI)
  · intro l j _ hj hI hn
    have hin : vp_in (nI j) 10 := vp_in_nI hj (by omega)
    have hcl : (nI j).toNatClampNeg = j := nI_clamp (by omega)
    refine br_f (nI_ge (b := 10) hj (by omega)) ⟨hin, ?_⟩
    rw [hcl]
    refine br_c (fun z => ?_) (fun z => nm_r (nI_1 j) (hn () (lt_s hI ?_)))
    · rw [hY.2.2.1 j hj] at z
      exact ⟨hin, nm_r (e' := upd a_there j 1) rfl ⟨hin, nm_e ⟨hin, nm_e ⟨hin, nm_e ⟨hin, nm_e (h1 j hj z hI)⟩⟩⟩⟩⟩
    · rw [hY.2.2.1 j hj] at z
      exact Classical.not_not.mp z
theorem nr_first_eq {T : Nat → Prop} {i j : Nat} (hi : ¬ T i) (hi2 : ∀ q, q < i → T q) (hj : ¬ T j) (hj2 : ∀ q, q < j → T q) : i = j := by
  rcases Nat.lt_trichotomy i j with h | h | h
  · exact absurd (hj2 i h) hi
  · exact h
  · exact absurd (hi2 j h) hj
theorem nr_CF_up {n : Nat} {W D P A : Nat → Nat} (hc : nr_CF n W D P A) {j a b c e : Nat} (ha : a < n) (hb : b < 3) (hcc : c < n) (he : e < 13) : nr_CF n (nr_up W j a) (nr_up D j b) (nr_up P j c) (nr_up A j e) := by
  refine ⟨hc.1, hc.2.1, fun i hi => ?_⟩
  have := hc.2.2 i hi
  by_cases z : i = j
  · rw [z, nr_up_s, nr_up_s, nr_up_s, nr_up_s]; omega
  · rw [nr_up_n z, nr_up_n z, nr_up_n z, nr_up_n z]; exact this
theorem i_vc_certify {k : Nat} {u : SX} {v : SY} (I : i_Rel k u v) (hk : k + 5 ≤ 2561) (v1 : Int32) (v2 : Int32) (v3 : Int32) (v4 : Int32) : wpX_certify (fun r u' => wpY_certify (fun r' v' => r' = r ∧ i_Rel (k + 5) u' v') v v1 v2 v3 v4) u v1 v2 v3 v4 := by
  obtain ⟨f_principals, f_certSet, f_grantSet, f_openSet, f_solved, a_certOwner, a_certName, a_certPrincipal, a_certPath, a_grantOwner, a_grantPrincipal, a_grantPath, a_costs, a_settled, a_reach, a_trust, a_before⟩ := u
  obtain ⟨f_n, a_there, a_who, a_name, a_subject, a_path, a_given, a_giver, a_target, a_targetPath, a_open, a_member, a_near⟩ := v
  have I0 := I
  obtain ⟨n, T, W, D, P, A, G, O, U, V, B, hp, hX, hY, hhc, hgX, hgY, hhg, hsol⟩ := I
  have hc := hX.1
  have hn6 := hc.2.1
  have hfn := hY.2.1
  unfold wpX_certify wpY_certify
  dsimp only
  by_cases k1 : nr_PR n v1
  · obtain ⟨a, ha, rfl⟩ := k1
    refine nr_x_P1 hp hn6 ha (br_f (by decide) ?_)
    by_cases k3 : nr_PR n v3
    · obtain ⟨c, hcc, rfl⟩ := k3
      refine nr_x_P1 hp hn6 hcc (br_f (by decide) ?_)
      by_cases k2 : nr_PR 3 v2
      · obtain ⟨b, hb, rfl⟩ := k2
        refine nr_x_N1 hb (br_f (by decide) ?_)
        by_cases k4 : nr_PR 13 v4
        · obtain ⟨e, he, rfl⟩ := k4
          refine nr_x_A1 he (br_f (by decide) ?_)
          refine nr_x_c36 hX (fun j hj hT hT2 => ?_) (fun hT => ?_)
          · refine nr_y_P1 hfn hn6 ha (br_f (by decide) (nr_y_P1 hfn hn6 hcc (br_f (by decide) (nr_r2t hb (nr_l12t he ?_)))))
            refine nr_y_c42 hY (fun j' hj' hT' hT2' => ?_) (fun hT' => absurd (hT' j hj) hT)
            have ej := nr_first_eq hT' hT2' hT hT2
            subst ej
            refine ⟨rfl, ?_⟩
            have hcf := nr_CF_up (j := j') hc ha hb hcc he
            rw [nr_byte (by omega), nr_byte (by omega), nr_byte (by omega), nr_byte (by omega)]
            refine ⟨n, fun i => T i ∨ i = j', nr_up W j' a, nr_up D j' b, nr_up P j' c, nr_up A j' e, G, O, U, V, B, hp, ⟨hcf, fun i hi => ?_, fun i hi => ?_⟩, ⟨hcf, hfn, fun i hi => ?_, fun i hi => ?_⟩, fun i hi h10 => ?_, hgX, hgY, hhg, fun z => absurd rfl z⟩
            · rw [nr_bset _ (by omega) (by omega), hX.2.1 i hi]
            · obtain ⟨q1, q2, q3, q4⟩ := hX.2.2 i hi
              exact ⟨nr_ua q1, nr_ua q2, nr_ua q3, nr_ua q4⟩
            · by_cases z : i = j'
              · rw [z, pk_us]; simp
              · rw [pk_un z, hY.2.2.1 i hi]; simp [z]
            · obtain ⟨q1, q2, q3, q4⟩ := hY.2.2.2 i hi
              exact ⟨nr_ua q1, nr_ua q2, nr_ua q3, nr_ua q4⟩
            · rw [nr_bset _ (by omega) hi]
              intro z
              rcases z with z | z
              · exact hhc i hi h10 z
              · omega
          · refine nr_y_P1 hfn hn6 ha (br_f (by decide) (nr_y_P1 hfn hn6 hcc (br_f (by decide) (nr_r2t hb (nr_l12t he ?_)))))
            exact nr_y_c42 hY (fun j' hj' hT' hT2' => absurd (hT j' hj') hT') (fun hT' => ⟨rfl, I0⟩)
        · exact nr_x_A0 k4 (br_t rfl (nr_y_P1 hfn hn6 ha (br_f (by decide) (nr_y_P1 hfn hn6 hcc (br_f (by decide) (nr_r2t hb (nr_l12f k4 ⟨rfl, I0⟩)))))))
      · exact nr_x_N0 k2 (br_t rfl (nr_y_P1 hfn hn6 ha (br_f (by decide) (nr_y_P1 hfn hn6 hcc (br_f (by decide) (nr_r2f k2 ⟨rfl, I0⟩))))))
    · exact nr_x_P0 hp hn6 k3 (br_t rfl (nr_y_P1 hfn hn6 ha (br_f (by decide) (nr_y_P0 hfn hn6 k3 (br_t rfl ⟨rfl, I0⟩)))))
  · exact nr_x_P0 hp hn6 k1 (br_t rfl (nr_y_P0 hfn hn6 k1 (br_t rfl ⟨rfl, I0⟩)))
theorem i_vc_revoke {k : Nat} {u : SX} {v : SY} (I : i_Rel k u v) (hk : k + 5 ≤ 2561) (v1 : Int32) : wpX_revoke (fun r u' => wpY_revoke (fun r' v' => r' = r ∧ i_Rel (k + 5) u' v') v v1) u v1 := by
  obtain ⟨f_principals, f_certSet, f_grantSet, f_openSet, f_solved, a_certOwner, a_certName, a_certPrincipal, a_certPath, a_grantOwner, a_grantPrincipal, a_grantPath, a_costs, a_settled, a_reach, a_trust, a_before⟩ := u
  obtain ⟨f_n, a_there, a_who, a_name, a_subject, a_path, a_given, a_giver, a_target, a_targetPath, a_open, a_member, a_near⟩ := v
  have I0 := I
  obtain ⟨n, T, W, D, P, A, G, O, U, V, B, hp, hX, hY, hhc, hgX, hgY, hhg, hsol⟩ := I
  have hc := hX.1
  unfold wpX_revoke wpY_revoke
  dsimp only
  by_cases k1 : nr_PR 10 v1
  · obtain ⟨j, hj, rfl⟩ := k1
    have hin : vp_in (nI j) 10 := vp_in_nI hj (by omega)
    have hcl : (nI j).toNatClampNeg = j := nI_clamp (by omega)
    refine nr_x_has hX hj (fun hT => br_f (by decide) (nm_e (nr_r9t hj ⟨hin, ?_⟩))) (fun hT => br_t rfl (nr_r9t hj ⟨hin, ?_⟩))
    · rw [hcl]
      refine br_f (fun z => (hY.2.2.1 j hj).mp z hT) ⟨hin, nm_r (e' := upd a_there j 0) rfl ⟨rfl, ?_⟩⟩
      refine ⟨n, fun i => T i ∧ i ≠ j, W, D, P, A, G, O, U, V, B, hp, ⟨hc, fun i hi => ?_, hX.2.2⟩, ⟨hc, hY.2.1, fun i hi => ?_, hY.2.2.2⟩, fun i hi h10 => ?_, hgX, hgY, hhg, fun z => absurd rfl z⟩
      · rw [nr_bclr _ (by omega) (by omega), hX.2.1 i hi]
      · by_cases z : i = j
        · rw [z, pk_us]; simp
        · rw [pk_un z, hY.2.2.1 i hi]; simp [z]
      · rw [nr_bclr _ (by omega) hi]
        exact fun z => hhc i hi h10 z.1
    · rw [hcl]
      exact br_t ((hY.2.2.1 j hj).mpr hT) ⟨rfl, I0⟩
  · exact nr_x_has0 k1 (br_t rfl (nr_r9f k1 ⟨rfl, I0⟩))
theorem nr_x_g28 {post : Int32 → SX → Prop} {v1 v2 v3 v4 : Int32} {n : Nat} {G O : Nat → Prop} {U V B : Nat → Nat} (hgX : nr_gX n G O U V B f_grantSet f_openSet a_grantOwner a_grantPrincipal a_grantPath)
    (h1 : ∀ j fo, j < 6 → ¬ G j → (∀ i, i < j → G i) → (∀ i, i < 32 → (bt fo i = true ↔ (i = j ∧ ¬ v4 = 0) ∨ (i ≠ j ∧ bt f_openSet i = true))) → post (nI j) (f_principals, f_certSet, f_grantSet ||| ((1 : Int32) <<< (nI j &&& 31)), fo, f_solved, a_certOwner, a_certName, a_certPrincipal, a_certPath, upd a_grantOwner j (vp_nar .byte v1.toInt8.toInt32), upd a_grantPrincipal j (vp_nar .byte v2.toInt8.toInt32), upd a_grantPath j (vp_nar .byte v3.toInt8.toInt32), a_costs, a_settled, a_reach, a_trust, a_before))
    (h0 : (∀ i, i < 6 → G i) → post (-2) (f_principals, f_certSet, f_grantSet, f_openSet, f_solved, a_certOwner, a_certName, a_certPrincipal, a_certPath, a_grantOwner, a_grantPrincipal, a_grantPath, a_costs, a_settled, a_reach, a_trust, a_before)) : ∃ l, wX_grant_28 post v1 v2 v3 v4 f_principals f_certSet f_grantSet f_openSet f_solved a_certOwner a_certName a_certPrincipal a_certPath a_grantOwner a_grantPrincipal a_grantPath a_costs a_settled a_reach a_trust a_before l 0 := by
  refine loop_0 (fun l i (_ : Unit) => wX_grant_28 post v1 v2 v3 v4 f_principals f_certSet f_grantSet f_openSet f_solved a_certOwner a_certName a_certPrincipal a_certPath a_grantOwner a_grantPrincipal a_grantPath a_costs a_settled a_reach a_trust a_before l (nI i)) (fun j _ => ∀ i, i < j → G i) 6 () (fun i hi => absurd hi (by omega)) ?_ ?_
  · intro l _ hI
    exact br_t (nI_le (Nat.le_refl 6) (by omega)) (h0 hI)
  · intro l j _ hj hI hn
    have hin : vp_in (nI j) 6 := vp_in_nI hj (by omega)
    have hcl : (nI j).toNatClampNeg = j := nI_clamp (by omega)
    refine br_f (nI_ge (b := 6) hj (by omega)) (br_c (fun z => ?_) (fun z => nm_r (nI_1 j) (hn () (lt_s hI ?_))))
    · rw [nr_bit _ (by omega), hgX.2.1 j hj] at z
      rw [hcl]
      refine ⟨hin, nm_e ⟨hin, nm_e ⟨hin, nm_e (nm_e (br_c (fun w => nm_e (h1 j _ hj z hI (fun i hi => ?_))) (fun w => nm_e (h1 j _ hj z hI (fun i hi => ?_)))))⟩⟩⟩
      · rw [nr_bclr _ (by omega) hi]
        constructor
        · exact fun g => Or.inr ⟨g.2, g.1⟩
        · intro g
          rcases g with g | g
          · exact absurd w g.2
          · exact ⟨g.2, g.1⟩
      · rw [nr_bset _ (by omega) hi]
        constructor
        · intro g
          by_cases e : i = j
          · exact Or.inl ⟨e, w⟩
          · exact Or.inr ⟨e, g.resolve_right e⟩
        · intro g
          rcases g with g | g
          · exact Or.inr g.1
          · exact Or.inl g.2
    · rw [nr_bit _ (by omega), hgX.2.1 j hj] at z
      exact Classical.not_not.mp z
theorem nr_y_g31 {post : Int32 → SY → Prop} {v1 v2 v3 v4 : Int32} {n : Nat} {G O : Nat → Prop} {U V B : Nat → Nat} (hgY : nr_gY n G O U V B a_given a_open a_giver a_target a_targetPath)
    (h1 : ∀ j, j < 6 → ¬ G j → (∀ i, i < j → G i) → post (nI j) (f_n, a_there, a_who, a_name, a_subject, a_path, upd a_given j 1, upd a_giver j v1, upd a_target j v2, upd a_targetPath j v3, upd a_open j (vp_nar .boolean v4), a_member, a_near))
    (h0 : (∀ i, i < 6 → G i) → post (-2) (f_n, a_there, a_who, a_name, a_subject, a_path, a_given, a_giver, a_target, a_targetPath, a_open, a_member, a_near)) : ∃ l, wY_grant_31 post v1 v2 v3 v4 f_n a_there a_who a_name a_subject a_path a_given a_giver a_target a_targetPath a_open a_member a_near l 0 := by
  refine loop_0 (fun l i (_ : Unit) => wY_grant_31 post v1 v2 v3 v4 f_n a_there a_who a_name a_subject a_path a_given a_giver a_target a_targetPath a_open a_member a_near l (nI i)) (fun j _ => ∀ i, i < j → G i) 6 () (fun i hi => absurd hi (by omega)) ?_ ?_
  · intro l _ hI
    exact br_t (nI_le (Nat.le_refl 6) (by omega)) (h0 hI)
  · intro l j _ hj hI hn
    have hin : vp_in (nI j) 6 := vp_in_nI hj (by omega)
    have hcl : (nI j).toNatClampNeg = j := nI_clamp (by omega)
    refine br_f (nI_ge (b := 6) hj (by omega)) ⟨hin, ?_⟩
    rw [hcl]
    refine br_c (fun z => ?_) (fun z => nm_r (nI_1 j) (hn () (lt_s hI ?_)))
    · rw [hgY.2.1 j hj] at z
      exact ⟨hin, nm_r (e' := upd a_given j 1) rfl ⟨hin, nm_e ⟨hin, nm_e ⟨hin, nm_e ⟨hin, nm_e (h1 j hj z hI)⟩⟩⟩⟩⟩
    · rw [hgY.2.1 j hj] at z
      exact Classical.not_not.mp z
theorem i_vc_grant {k : Nat} {u : SX} {v : SY} (I : i_Rel k u v) (hk : k + 5 ≤ 2561) (v1 : Int32) (v2 : Int32) (v3 : Int32) (v4 : Int32) : wpX_grant (fun r u' => wpY_grant (fun r' v' => r' = r ∧ i_Rel (k + 5) u' v') v v1 v2 v3 (lw_bz v4)) u v1 v2 v3 (lw_bz v4) := by
  obtain ⟨f_principals, f_certSet, f_grantSet, f_openSet, f_solved, a_certOwner, a_certName, a_certPrincipal, a_certPath, a_grantOwner, a_grantPrincipal, a_grantPath, a_costs, a_settled, a_reach, a_trust, a_before⟩ := u
  obtain ⟨f_n, a_there, a_who, a_name, a_subject, a_path, a_given, a_giver, a_target, a_targetPath, a_open, a_member, a_near⟩ := v
  have I0 := I
  obtain ⟨n, T, W, D, P, A, G, O, U, V, B, hp, hX, hY, hhc, hgX, hgY, hhg, hsol⟩ := I
  have hc := hX.1
  have hn6 := hc.2.1
  have hfn := hY.2.1
  have hb4 : vp_nar .boolean (lw_bz v4) = lw_bz v4 := by
    rcases lw_bz_01 v4 with z | z <;> rw [z] <;> rfl
  unfold wpX_grant wpY_grant
  dsimp only
  by_cases k1 : nr_PR n v1
  · obtain ⟨a, ha, rfl⟩ := k1
    refine nr_x_P1 hp hn6 ha (br_f (by decide) ?_)
    by_cases k3 : nr_PR n v2
    · obtain ⟨c, hcc, rfl⟩ := k3
      refine nr_x_P1 hp hn6 hcc (br_f (by decide) ?_)
      by_cases k4 : nr_PR 13 v3
      · obtain ⟨e, he, rfl⟩ := k4
        refine nr_x_A1 he (br_f (by decide) ?_)
        refine nr_x_g28 hgX (fun j fo hj hG hG2 hfo => ?_) (fun hG => ?_)
        · refine nr_y_P1 hfn hn6 ha (br_f (by decide) (nr_y_P1 hfn hn6 hcc (br_f (by decide) (nr_l12t he ?_))))
          refine nr_y_g31 hgY (fun j' hj' hG' hG2' => ?_) (fun hG' => absurd (hG' j hj) hG)
          have ej := nr_first_eq hG' hG2' hG hG2
          subst ej
          refine ⟨rfl, ?_⟩
          rw [nr_byte (by omega), nr_byte (by omega), nr_byte (by omega), hb4]
          have hr : ∀ i, i < 6 → nr_up U j' a i < n ∧ nr_up V j' c i < n ∧ nr_up B j' e i ≤ 12 := by
            intro i hi
            have := hgX.1 i hi
            by_cases z : i = j'
            · rw [z, nr_up_s, nr_up_s, nr_up_s]; omega
            · rw [nr_up_n z, nr_up_n z, nr_up_n z]; exact this
          refine ⟨n, T, W, D, P, A, fun i => G i ∨ i = j', fun i => (i = j' ∧ ¬ lw_bz v4 = 0) ∨ (i ≠ j' ∧ O i), nr_up U j' a, nr_up V j' c, nr_up B j' e, hp, hX, hY, hhc, ⟨hr, fun i hi => ?_, fun i hi hg => ?_, fun i hi => ?_⟩, ⟨hr, fun i hi => ?_, fun i hi hg => ?_, fun i hi => ?_⟩, fun i hi h10 => ?_, hsol⟩
          · rw [nr_bset _ (by omega) (by omega), hgX.2.1 i hi]
          · rw [hfo i (by omega)]
            by_cases z : i = j'
            · simp [z]
            · have := hgX.2.2.1 i hi (hg.resolve_right z)
              simp [z, this]
          · obtain ⟨q1, q2, q3⟩ := hgX.2.2.2 i hi
            exact ⟨nr_ua q1, nr_ua q2, nr_ua q3⟩
          · by_cases z : i = j'
            · rw [z, pk_us]; simp
            · rw [pk_un z, hgY.2.1 i hi]; simp [z]
          · by_cases z : i = j'
            · rw [z, pk_us]; simp
            · have := hgY.2.2.1 i hi (hg.resolve_right z)
              rw [pk_un z, this]; simp [z]
          · obtain ⟨q1, q2, q3⟩ := hgY.2.2.2 i hi
            exact ⟨nr_ua q1, nr_ua q2, nr_ua q3⟩
          · rw [nr_bset _ (by omega) hi]
            intro z
            rcases z with z | z
            · exact hhg i hi h10 z
            · omega
        · refine nr_y_P1 hfn hn6 ha (br_f (by decide) (nr_y_P1 hfn hn6 hcc (br_f (by decide) (nr_l12t he ?_))))
          exact nr_y_g31 hgY (fun j' hj' hG' hG2' => absurd (hG j' hj') hG') (fun hG' => ⟨rfl, I0⟩)
      · exact nr_x_A0 k4 (br_t rfl (nr_y_P1 hfn hn6 ha (br_f (by decide) (nr_y_P1 hfn hn6 hcc (br_f (by decide) (nr_l12f k4 ⟨rfl, I0⟩))))))
    · exact nr_x_P0 hp hn6 k3 (br_t rfl (nr_y_P1 hfn hn6 ha (br_f (by decide) (nr_y_P0 hfn hn6 k3 (br_t rfl ⟨rfl, I0⟩)))))
  · exact nr_x_P0 hp hn6 k1 (br_t rfl (nr_y_P0 hfn hn6 k1 (br_t rfl ⟨rfl, I0⟩)))
theorem i_vc_withdraw {k : Nat} {u : SX} {v : SY} (I : i_Rel k u v) (hk : k + 5 ≤ 2561) (v1 : Int32) : wpX_withdraw (fun r u' => wpY_withdraw (fun r' v' => r' = r ∧ i_Rel (k + 5) u' v') v v1) u v1 := by
  obtain ⟨f_principals, f_certSet, f_grantSet, f_openSet, f_solved, a_certOwner, a_certName, a_certPrincipal, a_certPath, a_grantOwner, a_grantPrincipal, a_grantPath, a_costs, a_settled, a_reach, a_trust, a_before⟩ := u
  obtain ⟨f_n, a_there, a_who, a_name, a_subject, a_path, a_given, a_giver, a_target, a_targetPath, a_open, a_member, a_near⟩ := v
  have I0 := I
  obtain ⟨n, T, W, D, P, A, G, O, U, V, B, hp, hX, hY, hhc, hgX, hgY, hhg, hsol⟩ := I
  unfold wpX_withdraw wpY_withdraw
  dsimp only
  by_cases k1 : nr_PR 6 v1
  · obtain ⟨j, hj, rfl⟩ := k1
    have hin : vp_in (nI j) 6 := vp_in_nI hj (by omega)
    have hcl : (nI j).toNatClampNeg = j := nI_clamp (by omega)
    refine br_f (nI_pos (by omega)) (br_f (nI_ge (b := 6) hj (by omega)) (br_c (fun z => nr_r5t hj ⟨hin, ?_⟩) (fun z => nm_e (nr_r5t hj ⟨hin, ?_⟩))))
    · rw [nr_bit _ (by omega), hgX.2.1 j hj] at z
      rw [hcl]
      exact br_t ((hgY.2.1 j hj).mpr z) ⟨rfl, I0⟩
    · rw [nr_bit _ (by omega), hgX.2.1 j hj] at z
      rw [hcl]
      refine br_f (fun w => z ((hgY.2.1 j hj).mp w)) ⟨hin, nm_r (e' := upd a_given j 0) rfl ⟨rfl, ?_⟩⟩
      refine ⟨n, T, W, D, P, A, fun i => G i ∧ i ≠ j, O, U, V, B, hp, hX, hY, hhc, ⟨hgX.1, fun i hi => ?_, fun i hi hg => hgX.2.2.1 i hi hg.1, hgX.2.2.2⟩, ⟨hgY.1, fun i hi => ?_, fun i hi hg => hgY.2.2.1 i hi hg.1, hgY.2.2.2⟩, fun i hi h10 => ?_, hsol⟩
      · rw [nr_bclr _ (by omega) (by omega), hgX.2.1 i hi]
      · by_cases z : i = j
        · rw [z, pk_us]; simp
        · rw [pk_un z, hgY.2.1 i hi]; simp [z]
      · rw [nr_bclr _ (by omega) hi]
        exact fun z => hhg i hi h10 z.1
  · rcases nr_PR_n (by omega) k1 with g | ⟨g, g2⟩
    · exact br_t g (nr_r5f k1 ⟨rfl, I0⟩)
    · exact br_f g (br_t g2 (nr_r5f k1 ⟨rfl, I0⟩))
theorem i_vc_certificates {k : Nat} {u : SX} {v : SY} (I : i_Rel k u v) (hk : k + 5 ≤ 2561) : wpX_certificates (fun r => wpY_certificates (fun r' => r' = r ∧ i_Rel (k + 5) u v) v) u := by
  obtain ⟨f_principals, f_certSet, f_grantSet, f_openSet, f_solved, a_certOwner, a_certName, a_certPrincipal, a_certPath, a_grantOwner, a_grantPrincipal, a_grantPath, a_costs, a_settled, a_reach, a_trust, a_before⟩ := u
  obtain ⟨f_n, a_there, a_who, a_name, a_subject, a_path, a_given, a_giver, a_target, a_targetPath, a_open, a_member, a_near⟩ := v
  have I0 := I
  obtain ⟨n, T, W, D, P, A, G, O, U, V, B, hp, hX, hY, hhc, hgX, hgY, hhg, hsol⟩ := I
  unfold wpX_certificates wpY_certificates
  dsimp only
  refine loop_0 (fun l i (w : Int32) => wY_certificates_4 (fun r' => r' = f_certSet ∧ i_Rel (k + 5) (f_principals, f_certSet, f_grantSet, f_openSet, f_solved, a_certOwner, a_certName, a_certPrincipal, a_certPath, a_grantOwner, a_grantPrincipal, a_grantPath, a_costs, a_settled, a_reach, a_trust, a_before) (f_n, a_there, a_who, a_name, a_subject, a_path, a_given, a_giver, a_target, a_targetPath, a_open, a_member, a_near)) f_n a_there a_who a_name a_subject a_path a_given a_giver a_target a_targetPath a_open a_member a_near l w (nI i)) (fun j w => ∀ i, i < 32 → (bt w i = true ↔ i < j ∧ T i)) 10 0 (fun i hi => by rw [b_0]; simp) ?_ ?_
  · intro l w hI
    refine br_t (nI_le (Nat.le_refl 10) (by omega)) ⟨nr_bext (fun i hi => ?_), I0⟩
    rw [hI i hi]
    by_cases z : i < 10
    · rw [hX.2.1 i z]; simp [z]
    · have := hhc i hi (by omega)
      simp [z, this]
  · intro l j w hj hI hn
    have hin : vp_in (nI j) 10 := vp_in_nI hj (by omega)
    have hcl : (nI j).toNatClampNeg = j := nI_clamp (by omega)
    refine br_f (nI_ge (b := 10) hj (by omega)) ⟨hin, ?_⟩
    rw [hcl]
    refine br_c (fun z => nm_e (nm_r (nI_1 j) (hn _ (fun i hi => ?_)))) (fun z => nm_e (nm_r (nI_1 j) (hn _ (fun i hi => ?_))))
    · rw [hY.2.2.1 j hj] at z
      rw [b_or, b_0, Bool.or_false, hI i hi]
      by_cases e : i = j
      · rw [e]; simp [z]
      · have : i < j ↔ i < j + 1 := by omega
        rw [this]
    · rw [hY.2.2.1 j hj] at z
      have z := Classical.not_not.mp z
      rw [nr_bset _ (by omega) hi, hI i hi]
      by_cases e : i = j
      · rw [e]; simp [z]
      · have : i < j ↔ i < j + 1 := by omega
        rw [this]; simp [e]
theorem i_vc_grants {k : Nat} {u : SX} {v : SY} (I : i_Rel k u v) (hk : k + 5 ≤ 2561) : wpX_grants (fun r => wpY_grants (fun r' => r' = r ∧ i_Rel (k + 5) u v) v) u := by
  obtain ⟨f_principals, f_certSet, f_grantSet, f_openSet, f_solved, a_certOwner, a_certName, a_certPrincipal, a_certPath, a_grantOwner, a_grantPrincipal, a_grantPath, a_costs, a_settled, a_reach, a_trust, a_before⟩ := u
  obtain ⟨f_n, a_there, a_who, a_name, a_subject, a_path, a_given, a_giver, a_target, a_targetPath, a_open, a_member, a_near⟩ := v
  have I0 := I
  obtain ⟨n, T, W, D, P, A, G, O, U, V, B, hp, hX, hY, hhc, hgX, hgY, hhg, hsol⟩ := I
  unfold wpX_grants wpY_grants
  dsimp only
  refine loop_0 (fun l i (w : Int32) => wY_grants_4 (fun r' => r' = f_grantSet ∧ i_Rel (k + 5) (f_principals, f_certSet, f_grantSet, f_openSet, f_solved, a_certOwner, a_certName, a_certPrincipal, a_certPath, a_grantOwner, a_grantPrincipal, a_grantPath, a_costs, a_settled, a_reach, a_trust, a_before) (f_n, a_there, a_who, a_name, a_subject, a_path, a_given, a_giver, a_target, a_targetPath, a_open, a_member, a_near)) f_n a_there a_who a_name a_subject a_path a_given a_giver a_target a_targetPath a_open a_member a_near l w (nI i)) (fun j w => ∀ i, i < 32 → (bt w i = true ↔ i < j ∧ G i)) 6 0 (fun i hi => by rw [b_0]; simp) ?_ ?_
  · intro l w hI
    refine br_t (nI_le (Nat.le_refl 6) (by omega)) ⟨nr_bext (fun i hi => ?_), I0⟩
    rw [hI i hi]
    by_cases z : i < 6
    · rw [hgX.2.1 i z]; simp [z]
    · have := hhg i hi (by omega)
      simp [z, this]
  · intro l j w hj hI hn
    have hin : vp_in (nI j) 6 := vp_in_nI hj (by omega)
    have hcl : (nI j).toNatClampNeg = j := nI_clamp (by omega)
    refine br_f (nI_ge (b := 6) hj (by omega)) ⟨hin, ?_⟩
    rw [hcl]
    refine br_c (fun z => nm_e (nm_r (nI_1 j) (hn _ (fun i hi => ?_)))) (fun z => nm_e (nm_r (nI_1 j) (hn _ (fun i hi => ?_))))
    · rw [hgY.2.1 j hj] at z
      rw [b_or, b_0, Bool.or_false, hI i hi]
      by_cases e : i = j
      · rw [e]; simp [z]
      · have : i < j ↔ i < j + 1 := by omega
        rw [this]
    · rw [hgY.2.1 j hj] at z
      have z := Classical.not_not.mp z
      rw [nr_bset _ (by omega) hi, hI i hi]
      by_cases e : i = j
      · rw [e]; simp [z]
      · have : i < j ↔ i < j + 1 := by omega
        rw [this]; simp [e]
theorem i_vc_clear {k : Nat} {u : SX} {v : SY} (I : i_Rel k u v) (hk : k + 5 ≤ 2561) : wpX_clear (fun u' => wpY_clear (fun v' => i_Rel (k + 5) u' v') v) u := by
  obtain ⟨f_principals, f_certSet, f_grantSet, f_openSet, f_solved, a_certOwner, a_certName, a_certPrincipal, a_certPath, a_grantOwner, a_grantPrincipal, a_grantPath, a_costs, a_settled, a_reach, a_trust, a_before⟩ := u
  obtain ⟨f_n, a_there, a_who, a_name, a_subject, a_path, a_given, a_giver, a_target, a_targetPath, a_open, a_member, a_near⟩ := v
  obtain ⟨n, T, W, D, P, A, G, O, U, V, B, hp, hX, hY, hhc, hgX, hgY, hhg, hsol⟩ := I
  unfold wpX_clear wpY_clear
  dsimp only
  refine loop_0 (fun l i (w : Nat → Int32) => wY_clear_2 (fun v' => i_Rel (k + 5) (f_principals, 0, 0, f_openSet, 0, a_certOwner, a_certName, a_certPrincipal, a_certPath, a_grantOwner, a_grantPrincipal, a_grantPath, a_costs, a_settled, a_reach, a_trust, a_before) v') f_n l (nI i) w a_who a_name a_subject a_path a_given a_giver a_target a_targetPath a_open a_member a_near) (fun j w => ∀ i, i < j → w i = 0) 10 a_there (fun i hi => absurd hi (by omega)) ?_ ?_
  · intro l th hth
    refine br_t (nI_le (Nat.le_refl 10) (by omega)) ?_
    refine loop_0 (fun l i (w : Nat → Int32) => wY_clear_23 (fun v' => i_Rel (k + 5) (f_principals, 0, 0, f_openSet, 0, a_certOwner, a_certName, a_certPrincipal, a_certPath, a_grantOwner, a_grantPrincipal, a_grantPath, a_costs, a_settled, a_reach, a_trust, a_before) v') f_n l (nI i) th a_who a_name a_subject a_path w a_giver a_target a_targetPath a_open a_member a_near) (fun j w => ∀ i, i < j → w i = 0) 6 a_given (fun i hi => absurd hi (by omega)) ?_ ?_
    · intro l gv hgv
      refine br_t (nI_le (Nat.le_refl 6) (by omega)) ?_
      exact ⟨n, fun _ => False, W, D, P, A, fun _ => False, O, U, V, B, hp, ⟨hX.1, fun i _ => by rw [b_0]; simp, hX.2.2⟩, ⟨hY.1, hY.2.1, fun i hi => by simp [hth i hi], hY.2.2.2⟩, fun i _ _ => by rw [b_0]; simp,
        ⟨hgX.1, fun i _ => by rw [b_0]; simp, fun i _ z => absurd z id, hgX.2.2.2⟩, ⟨hgY.1, fun i hi => by simp [hgv i hi], fun i _ z => absurd z id, hgY.2.2.2⟩, fun i _ _ => by rw [b_0]; simp, fun z => absurd rfl z⟩
    · intro l j w hj hI hn
      have hin : vp_in (nI j) 6 := vp_in_nI hj (by omega)
      have hcl : (nI j).toNatClampNeg = j := nI_clamp (by omega)
      refine br_f (nI_ge (b := 6) hj (by omega)) ⟨hin, nm_r (e' := upd w j 0) (by rw [hcl]; rfl) (nm_r (nI_1 j) (hn (upd w j 0) (lt_s (fun i hi => ?_) pk_us)))⟩
      rw [pk_un (by omega)]; exact hI i hi
  · intro l j w hj hI hn
    have hin : vp_in (nI j) 10 := vp_in_nI hj (by omega)
    have hcl : (nI j).toNatClampNeg = j := nI_clamp (by omega)
    refine br_f (nI_ge (b := 10) hj (by omega)) ⟨hin, nm_r (e' := upd w j 0) (by rw [hcl]; rfl) (nm_r (nI_1 j) (hn (upd w j 0) (lt_s (fun i hi => ?_) pk_us)))⟩
    rw [pk_un (by omega)]; exact hI i hi
end
end
section
def nr_fd (v : Nat) : Int32 := if v < 1000 then nI v else -1
theorem nr_fd_x {post : Int32 → Prop} {s : Nat} (h : post (nr_fd s)) : (1048576 ≤ nI (nr_e s) → post (-1)) ∧ (¬ 1048576 ≤ nI (nr_e s) → post (nI (nr_e s))) := by
  have hb := nr_e_b s
  have hf := nr_e_far (v := s)
  unfold nr_fd at h
  refine pk_le 1048576 (nr_e s) (fun z => ?_) (fun z => ?_)
  · rw [if_neg (by omega)] at h; exact h
  · have hs : s < 1000 := by omega
    rw [if_pos hs] at h
    rw [nr_e_lt hs]; exact h
theorem nr_FN_pos {n : Nat} {T : Nat → Prop} {W D P A F : Nat → Nat} (h : nr_FN n T W D P A F) {i : Nat} (hi : i < 108) : 1 ≤ F i := by
  by_cases z : F i < 1000
  · obtain ⟨r, _, _, hv⟩ := h.2.2 i hi z
    unfold nr_v at hv
    omega
  · omega
section
variable {f_principals f_certSet f_grantSet f_openSet f_solved : Int32} {a_certOwner a_certName a_certPrincipal a_certPath a_grantOwner a_grantPrincipal a_grantPath a_costs a_settled a_reach a_trust a_before : Nat → Int32}
variable {f_n : Int32} {a_there a_who a_name a_subject a_path a_given a_giver a_target a_targetPath a_open a_member a_near : Nat → Int32}
theorem nr_y_found {post : Int32 → Prop} {s : Nat} (hs : s ≤ 1000) (h : post (nr_fd s)) : wpY_found post (f_n, a_there, a_who, a_name, a_subject, a_path, a_given, a_giver, a_target, a_targetPath, a_open, a_member, a_near) (nI s) := by
  unfold nr_fd at h
  refine pk_le 1000 s (fun z => ?_) (fun z => ?_)
  · rw [if_neg (by omega)] at h; exact h
  · rw [if_pos z] at h; exact h
theorem nr_y_mem9 {post : Int32 → SY → Prop} {F : Nat → Nat} {a b : Nat} {n : Nat} {T : Nat → Prop} {W D P A : Nat → Nat} (hY : nr_cY n T W D P A f_n a_there a_who a_name a_subject a_path) (hF : nr_FN n T W D P A F) (hme : nr_YA a_member F) (ha : a < n) (hb : b < 3)
    (h : ∀ r, (∀ i, i < 32 → (bt r i = true ↔ i < 6 ∧ F (nr_cell a b i) < 1000)) → post r (f_n, a_there, a_who, a_name, a_subject, a_path, a_given, a_giver, a_target, a_targetPath, a_open, a_member, a_near)) : ∃ l, wY_members_9 post (nI a) (nI b) f_n a_there a_who a_name a_subject a_path a_given a_giver a_target a_targetPath a_open a_member a_near l 0 0 := by
  have hc := hY.1
  have hn6 := hc.2.1
  have hfn := hY.2.1
  refine loop_0 (fun l i (w : Int32) => wY_members_9 post (nI a) (nI b) f_n a_there a_who a_name a_subject a_path a_given a_giver a_target a_targetPath a_open a_member a_near l w (nI i)) (fun j w => ∀ i, i < 32 → (bt w i = true ↔ i < j ∧ F (nr_cell a b i) < 1000)) n 0 (fun i hi => by rw [b_0]; simp) ?_ ?_
  · intro l w hI
    refine br_t (by rw [hfn]; exact nI_le (Nat.le_refl n) (by omega)) (h w (fun i hi => ?_))
    rw [hI i hi]
    by_cases z : n ≤ i
    · by_cases z6 : i < 6
      · have := nr_FN_hi hc hF (nr_cell_lt (k := a) (d := b) (x := i) (by omega) hb z6) (by rw [nr_cell_x z6]; exact z)
        omega
      · omega
    · omega
  · intro l x w hx hI hn
    have hcl := nr_cell_lt (k := a) (d := b) (x := x) (by omega) hb (by omega)
    obtain ⟨g1, g2⟩ := hme _ hcl
    refine br_f (by rw [hfn]; exact nI_ge hx (by omega)) ?_
    refine nr_y_P1 hfn hn6 ha (br_f (by decide) (nr_r2t hb ?_))
    rw [nr_cy, nI_clamp (n := nr_cell a b x) (by omega), g1]
    refine ⟨vp_in_nI hcl (by omega), pk_le 1000 (F (nr_cell a b x)) (fun hl => nm_e (nm_r (nI_1 x) (hn _ (fun i hi => ?_)))) (fun hl => nm_e (nm_r (nI_1 x) (hn _ (fun i hi => ?_))))⟩
    · rw [b_or, b_0, Bool.or_false, hI i hi]
      by_cases e : i = x
      · rw [e]; omega
      · omega
    · rw [nr_bset w (by omega) hi, hI i hi]
      by_cases e : i = x
      · rw [e]; omega
      · omega
theorem i_vc_members {k : Nat} {u : SX} {v : SY} (I : i_Rel k u v) (hk : k + 5 ≤ 2561) (v1 : Int32) (v2 : Int32) : wpX_members (fun r u' => wpY_members (fun r' v' => r' = r ∧ i_Rel (k + 5) u' v') v v1 v2) u v1 v2 := by
  obtain ⟨f_principals, f_certSet, f_grantSet, f_openSet, f_solved, a_certOwner, a_certName, a_certPrincipal, a_certPath, a_grantOwner, a_grantPrincipal, a_grantPath, a_costs, a_settled, a_reach, a_trust, a_before⟩ := u
  obtain ⟨f_n, a_there, a_who, a_name, a_subject, a_path, a_given, a_giver, a_target, a_targetPath, a_open, a_member, a_near⟩ := v
  have I0 := I
  obtain ⟨n, T, W, D, P, A, G, O, U, V, B, hp, hX, hY, hhc, hgX, hgY, hhg, hsol⟩ := I
  have hc := hX.1
  have hn6 := hc.2.1
  have hfn := hY.2.1
  obtain ⟨F, hF⟩ := nr_FN_ex (T := T) hc
  unfold wpX_members wpY_members
  dsimp only
  have h00 : ¬ f_n ≤ 0 := by rw [hfn]; exact nI_nle (by have := hc.1; omega) (by omega)
  by_cases k1 : nr_PR n v1
  · obtain ⟨a, ha, rfl⟩ := k1
    refine nr_x_P1 hp hn6 ha (br_f (by decide) ?_)
    by_cases k2 : nr_PR 3 v2
    · obtain ⟨b, hb, rfl⟩ := k2
      refine nr_x_N1 hb (br_f (by decide) ?_)
      refine nr_x_solve hX hF (fun z => hsol z F hF) (fun g co st hg hca => ?_)
      refine nr_x_ms hca (by omega) hb (fun r hr => ?_)
      refine nr_y_work hY hF (fun me hme => ?_)
      refine nr_y_mem9 hY hF hme ha hb (fun r' hr' => ⟨nr_bext (fun i hi => ?_), ⟨n, T, W, D, P, A, G, O, U, V, B, hp, hX, hY, hhc, hgX, hgY, hhg, fun _ F' hF' => nr_CA_eq hca (fun i hi => (nr_FN_1 hX.1 hF hF' i hi).symm)⟩⟩)
      rw [hr i hi, hr' i hi]
    · refine nr_x_N0 k2 (br_t rfl ?_)
      refine nr_y_work hY hF (fun me hme => ?_)
      exact ⟨1, br_f h00 (nr_y_P1 hfn hn6 ha (br_f (by decide) (nr_r2f k2 ⟨rfl, I0⟩)))⟩
  · refine nr_x_P0 hp hn6 k1 (br_t rfl ?_)
    refine nr_y_work hY hF (fun me hme => ?_)
    exact ⟨1, br_f h00 (nr_y_P0 hfn hn6 k1 (br_t rfl ⟨rfl, I0⟩))⟩
theorem nr_x_cost {post : Int32 → SX → Prop} {F : Nat → Nat} {a b x : Nat} {n : Nat} {T : Nat → Prop} {W D P A : Nat → Nat} (hX : nr_cX n T W D P A f_certSet a_certOwner a_certName a_certPrincipal a_certPath) (hp : f_principals = nI n) (hF : nr_FN n T W D P A F) (hs : ¬ f_solved = 0 → nr_CA a_costs F) (ha : a < n) (hb : b < 3) (hx : x < n)
    (h : ∀ g co st, ¬ g = 0 → nr_CA co F → post (nr_fd (F (nr_cell a b x))) (f_principals, f_certSet, f_grantSet, f_openSet, g, a_certOwner, a_certName, a_certPrincipal, a_certPath, a_grantOwner, a_grantPrincipal, a_grantPath, co, st, a_reach, a_trust, a_before)) : wpX_cost post (f_principals, f_certSet, f_grantSet, f_openSet, f_solved, a_certOwner, a_certName, a_certPrincipal, a_certPath, a_grantOwner, a_grantPrincipal, a_grantPath, a_costs, a_settled, a_reach, a_trust, a_before) (nI a) (nI b) (nI x) := by
  have hn6 := hX.1.2.1
  have hcl := nr_cell_lt (k := a) (d := b) (x := x) (by omega) hb (by omega)
  unfold wpX_cost
  dsimp only
  refine nr_x_P1 hp hn6 ha (br_f (by decide) (nr_x_N1 hb (br_f (by decide) (nr_x_P1 hp hn6 hx (br_f (by decide) ?_)))))
  refine nr_x_solve hX hF hs (fun g co st hg hca => ?_)
  dsimp only
  rw [nr_ce, nI_clamp (n := nr_cell a b x) (by omega), (hca _ hcl).1]
  exact ⟨vp_in_nI hcl (by omega), nm_e (nr_fd_x (post := fun r => post r (f_principals, f_certSet, f_grantSet, f_openSet, g, a_certOwner, a_certName, a_certPrincipal, a_certPath, a_grantOwner, a_grantPrincipal, a_grantPath, co, st, a_reach, a_trust, a_before)) (h g co st hg hca))⟩
theorem nr_x_cost0 {post : Int32 → SX → Prop} {n : Nat} {v1 v2 v3 : Int32} (hn6 : n ≤ 6) (hp : f_principals = nI n) (hv : ¬ (nr_PR n v1 ∧ nr_PR 3 v2 ∧ nr_PR n v3)) (h : post (-1) (f_principals, f_certSet, f_grantSet, f_openSet, f_solved, a_certOwner, a_certName, a_certPrincipal, a_certPath, a_grantOwner, a_grantPrincipal, a_grantPath, a_costs, a_settled, a_reach, a_trust, a_before)) : wpX_cost post (f_principals, f_certSet, f_grantSet, f_openSet, f_solved, a_certOwner, a_certName, a_certPrincipal, a_certPath, a_grantOwner, a_grantPrincipal, a_grantPath, a_costs, a_settled, a_reach, a_trust, a_before) v1 v2 v3 := by
  unfold wpX_cost
  dsimp only
  by_cases k1 : nr_PR n v1
  · obtain ⟨a, ha, e1⟩ := k1
    rw [e1]
    refine nr_x_P1 hp hn6 ha (br_f (by decide) ?_)
    by_cases k2 : nr_PR 3 v2
    · obtain ⟨b, hb, e2⟩ := k2
      rw [e2]
      refine nr_x_N1 hb (br_f (by decide) ?_)
      by_cases k3 : nr_PR n v3
      · exact absurd ⟨⟨a, ha, e1⟩, ⟨b, hb, e2⟩, k3⟩ hv
      · exact nr_x_P0 hp hn6 k3 (br_t rfl h)
    · exact nr_x_N0 k2 (br_t rfl h)
  · exact nr_x_P0 hp hn6 k1 (br_t rfl h)
theorem nr_y_cost {post : Int32 → SY → Prop} {F : Nat → Nat} {a b x : Nat} {n : Nat} {T : Nat → Prop} {W D P A : Nat → Nat} (hY : nr_cY n T W D P A f_n a_there a_who a_name a_subject a_path) (hF : nr_FN n T W D P A F) (ha : a < n) (hb : b < 3) (hx : x < n)
    (h : ∀ me, nr_YA me F → post (nr_fd (F (nr_cell a b x))) (f_n, a_there, a_who, a_name, a_subject, a_path, a_given, a_giver, a_target, a_targetPath, a_open, me, a_near)) : wpY_cost post (f_n, a_there, a_who, a_name, a_subject, a_path, a_given, a_giver, a_target, a_targetPath, a_open, a_member, a_near) (nI a) (nI b) (nI x) := by
  have hn6 := hY.1.2.1
  have hfn := hY.2.1
  have hcl := nr_cell_lt (k := a) (d := b) (x := x) (by omega) hb (by omega)
  unfold wpY_cost
  dsimp only
  refine nr_y_P1 hfn hn6 ha (br_f (by decide) (nr_y_P1 hfn hn6 hx (br_f (by decide) (nr_l2t hb ?_))))
  refine nr_y_work hY hF (fun me hme => ?_)
  dsimp only
  rw [nr_cy, nI_clamp (n := nr_cell a b x) (by omega), (hme _ hcl).1]
  exact ⟨vp_in_nI hcl (by omega), nr_y_found (hme _ hcl).2 (h me hme)⟩
theorem nr_y_cost0 {post : Int32 → SY → Prop} {n : Nat} {v1 v2 v3 : Int32} (hn6 : n ≤ 6) (hfn : f_n = nI n) (hv : ¬ (nr_PR n v1 ∧ nr_PR 3 v2 ∧ nr_PR n v3)) (h : post (-1) (f_n, a_there, a_who, a_name, a_subject, a_path, a_given, a_giver, a_target, a_targetPath, a_open, a_member, a_near)) : wpY_cost post (f_n, a_there, a_who, a_name, a_subject, a_path, a_given, a_giver, a_target, a_targetPath, a_open, a_member, a_near) v1 v2 v3 := by
  unfold wpY_cost
  dsimp only
  by_cases k1 : nr_PR n v1
  · obtain ⟨a, ha, e1⟩ := k1
    rw [e1]
    refine nr_y_P1 hfn hn6 ha (br_f (by decide) ?_)
    by_cases k3 : nr_PR n v3
    · obtain ⟨c, hc, e3⟩ := k3
      rw [e3]
      refine nr_y_P1 hfn hn6 hc (br_f (by decide) ?_)
      by_cases k2 : nr_PR 3 v2
      · exact absurd ⟨⟨a, ha, e1⟩, k2, ⟨c, hc, e3⟩⟩ hv
      · exact nr_l2f k2 h
    · exact nr_y_P0 hfn hn6 k3 (br_t rfl h)
  · exact nr_y_P0 hfn hn6 k1 (br_t rfl h)
theorem i_vc_cost {k : Nat} {u : SX} {v : SY} (I : i_Rel k u v) (hk : k + 5 ≤ 2561) (v1 : Int32) (v2 : Int32) (v3 : Int32) : wpX_cost (fun r u' => wpY_cost (fun r' v' => r' = r ∧ i_Rel (k + 5) u' v') v v1 v2 v3) u v1 v2 v3 := by
  obtain ⟨f_principals, f_certSet, f_grantSet, f_openSet, f_solved, a_certOwner, a_certName, a_certPrincipal, a_certPath, a_grantOwner, a_grantPrincipal, a_grantPath, a_costs, a_settled, a_reach, a_trust, a_before⟩ := u
  obtain ⟨f_n, a_there, a_who, a_name, a_subject, a_path, a_given, a_giver, a_target, a_targetPath, a_open, a_member, a_near⟩ := v
  have I0 := I
  obtain ⟨n, T, W, D, P, A, G, O, U, V, B, hp, hX, hY, hhc, hgX, hgY, hhg, hsol⟩ := I
  have hc := hX.1
  have hn6 := hc.2.1
  have hfn := hY.2.1
  obtain ⟨F, hF⟩ := nr_FN_ex (T := T) hc
  by_cases kk : nr_PR n v1 ∧ nr_PR 3 v2 ∧ nr_PR n v3
  · obtain ⟨⟨a, ha, rfl⟩, ⟨b, hb, rfl⟩, ⟨x, hx, rfl⟩⟩ := kk
    exact nr_x_cost hX hp hF (fun z => hsol z F hF) ha hb hx (fun g co st hg hca => nr_y_cost hY hF ha hb hx (fun me hme => ⟨rfl, ⟨n, T, W, D, P, A, G, O, U, V, B, hp, hX, hY, hhc, hgX, hgY, hhg, fun _ F' hF' => nr_CA_eq hca (fun i hi => (nr_FN_1 hX.1 hF hF' i hi).symm)⟩⟩))
  · exact nr_x_cost0 hn6 hp kk (nr_y_cost0 hn6 hfn kk ⟨rfl, I0⟩)
theorem nr_x_deno {post : Int32 → SX → Prop} {F : Nat → Nat} {p a x : Nat} {n : Nat} {T : Nat → Prop} {W D P A : Nat → Nat} (hX : nr_cX n T W D P A f_certSet a_certOwner a_certName a_certPrincipal a_certPath) (hp : f_principals = nI n) (hF : nr_FN n T W D P A F) (hs : ¬ f_solved = 0 → nr_CA a_costs F) (hpn : p < n) (ha : a < 13) (hx : x < n)
    (h : ∀ g co st, ¬ g = 0 → nr_CA co F → post (nr_fd (nr_sh F p a x)) (f_principals, f_certSet, f_grantSet, f_openSet, g, a_certOwner, a_certName, a_certPrincipal, a_certPath, a_grantOwner, a_grantPrincipal, a_grantPath, co, st, a_reach, a_trust, a_before)) : wpX_denotes post (f_principals, f_certSet, f_grantSet, f_openSet, f_solved, a_certOwner, a_certName, a_certPrincipal, a_certPath, a_grantOwner, a_grantPrincipal, a_grantPath, a_costs, a_settled, a_reach, a_trust, a_before) (nI p) (nI a) (nI x) := by
  have hn6 := hX.1.2.1
  unfold wpX_denotes
  dsimp only
  refine nr_x_P1 hp hn6 hpn (br_f (by decide) (nr_x_A1 ha (br_f (by decide) (nr_x_P1 hp hn6 hx (br_f (by decide) ?_)))))
  refine nr_x_solve hX hF hs (fun g co st hg hca => ?_)
  refine nr_x_den hca (by omega) (by omega) (by omega) ?_
  exact nr_fd_x (post := fun r => post r (f_principals, f_certSet, f_grantSet, f_openSet, g, a_certOwner, a_certName, a_certPrincipal, a_certPath, a_grantOwner, a_grantPrincipal, a_grantPath, co, st, a_reach, a_trust, a_before)) (h g co st hg hca)
theorem nr_x_deno0 {post : Int32 → SX → Prop} {n : Nat} {v1 v2 v3 : Int32} (hn6 : n ≤ 6) (hp : f_principals = nI n) (hv : ¬ (nr_PR n v1 ∧ nr_PR 13 v2 ∧ nr_PR n v3)) (h : post (-1) (f_principals, f_certSet, f_grantSet, f_openSet, f_solved, a_certOwner, a_certName, a_certPrincipal, a_certPath, a_grantOwner, a_grantPrincipal, a_grantPath, a_costs, a_settled, a_reach, a_trust, a_before)) : wpX_denotes post (f_principals, f_certSet, f_grantSet, f_openSet, f_solved, a_certOwner, a_certName, a_certPrincipal, a_certPath, a_grantOwner, a_grantPrincipal, a_grantPath, a_costs, a_settled, a_reach, a_trust, a_before) v1 v2 v3 := by
  unfold wpX_denotes
  dsimp only
  by_cases k1 : nr_PR n v1
  · obtain ⟨a, ha, e1⟩ := k1
    rw [e1]
    refine nr_x_P1 hp hn6 ha (br_f (by decide) ?_)
    by_cases k2 : nr_PR 13 v2
    · obtain ⟨b, hb, e2⟩ := k2
      rw [e2]
      refine nr_x_A1 hb (br_f (by decide) ?_)
      by_cases k3 : nr_PR n v3
      · exact absurd ⟨⟨a, ha, e1⟩, ⟨b, hb, e2⟩, k3⟩ hv
      · exact nr_x_P0 hp hn6 k3 (br_t rfl h)
    · exact nr_x_A0 k2 (br_t rfl h)
  · exact nr_x_P0 hp hn6 k1 (br_t rfl h)
theorem nr_y_deno {post : Int32 → SY → Prop} {F : Nat → Nat} {p a x : Nat} {n : Nat} {T : Nat → Prop} {W D P A : Nat → Nat} (hY : nr_cY n T W D P A f_n a_there a_who a_name a_subject a_path) (hF : nr_FN n T W D P A F) (hpn : p < n) (ha : a < 13) (hx : x < n)
    (h : ∀ me, nr_YA me F → post (nr_fd (nr_sh F p a x)) (f_n, a_there, a_who, a_name, a_subject, a_path, a_given, a_giver, a_target, a_targetPath, a_open, me, a_near)) : wpY_denotes post (f_n, a_there, a_who, a_name, a_subject, a_path, a_given, a_giver, a_target, a_targetPath, a_open, a_member, a_near) (nI p) (nI a) (nI x) := by
  have hn6 := hY.1.2.1
  have hfn := hY.2.1
  unfold wpY_denotes
  dsimp only
  refine nr_y_P1 hfn hn6 hpn (br_f (by decide) (nr_y_P1 hfn hn6 hx (br_f (by decide) (nr_l12t ha ?_))))
  refine nr_y_work hY hF (fun me hme => ?_)
  refine nr_y_shown hfn hn6 hme (by omega) (by omega) (by omega) (fun i hi h6 => nr_FN_hi hY.1 hF hi h6) ?_
  exact nr_y_found (nr_sh_le (by omega) (by omega) (by omega) hF.1) (h me hme)
theorem nr_y_deno0 {post : Int32 → SY → Prop} {n : Nat} {v1 v2 v3 : Int32} (hn6 : n ≤ 6) (hfn : f_n = nI n) (hv : ¬ (nr_PR n v1 ∧ nr_PR 13 v2 ∧ nr_PR n v3)) (h : post (-1) (f_n, a_there, a_who, a_name, a_subject, a_path, a_given, a_giver, a_target, a_targetPath, a_open, a_member, a_near)) : wpY_denotes post (f_n, a_there, a_who, a_name, a_subject, a_path, a_given, a_giver, a_target, a_targetPath, a_open, a_member, a_near) v1 v2 v3 := by
  unfold wpY_denotes
  dsimp only
  by_cases k1 : nr_PR n v1
  · obtain ⟨a, ha, e1⟩ := k1
    rw [e1]
    refine nr_y_P1 hfn hn6 ha (br_f (by decide) ?_)
    by_cases k3 : nr_PR n v3
    · obtain ⟨c, hc, e3⟩ := k3
      rw [e3]
      refine nr_y_P1 hfn hn6 hc (br_f (by decide) ?_)
      by_cases k2 : nr_PR 13 v2
      · exact absurd ⟨⟨a, ha, e1⟩, k2, ⟨c, hc, e3⟩⟩ hv
      · exact nr_l12f k2 h
    · exact nr_y_P0 hfn hn6 k3 (br_t rfl h)
  · exact nr_y_P0 hfn hn6 k1 (br_t rfl h)
theorem i_vc_denotes {k : Nat} {u : SX} {v : SY} (I : i_Rel k u v) (hk : k + 5 ≤ 2561) (v1 : Int32) (v2 : Int32) (v3 : Int32) : wpX_denotes (fun r u' => wpY_denotes (fun r' v' => r' = r ∧ i_Rel (k + 5) u' v') v v1 v2 v3) u v1 v2 v3 := by
  obtain ⟨f_principals, f_certSet, f_grantSet, f_openSet, f_solved, a_certOwner, a_certName, a_certPrincipal, a_certPath, a_grantOwner, a_grantPrincipal, a_grantPath, a_costs, a_settled, a_reach, a_trust, a_before⟩ := u
  obtain ⟨f_n, a_there, a_who, a_name, a_subject, a_path, a_given, a_giver, a_target, a_targetPath, a_open, a_member, a_near⟩ := v
  have I0 := I
  obtain ⟨n, T, W, D, P, A, G, O, U, V, B, hp, hX, hY, hhc, hgX, hgY, hhg, hsol⟩ := I
  have hc := hX.1
  have hn6 := hc.2.1
  have hfn := hY.2.1
  obtain ⟨F, hF⟩ := nr_FN_ex (T := T) hc
  by_cases kk : nr_PR n v1 ∧ nr_PR 13 v2 ∧ nr_PR n v3
  · obtain ⟨⟨a, ha, rfl⟩, ⟨b, hb, rfl⟩, ⟨x, hx, rfl⟩⟩ := kk
    exact nr_x_deno hX hp hF (fun z => hsol z F hF) ha hb hx (fun g co st hg hca => nr_y_deno hY hF ha hb hx (fun me hme => ⟨rfl, ⟨n, T, W, D, P, A, G, O, U, V, B, hp, hX, hY, hhc, hgX, hgY, hhg, fun _ F' hF' => nr_CA_eq hca (fun i hi => (nr_FN_1 hX.1 hF hF' i hi).symm)⟩⟩))
  · exact nr_x_deno0 hn6 hp kk (nr_y_deno0 hn6 hfn kk ⟨rfl, I0⟩)
def nr_WI (T : Nat → Prop) (W D P A F : Nat → Nat) (a b x c i : Nat) : Prop := T i ∧ W i = a ∧ D i = b ∧ nr_sh F (P i) (A i) x + 1 = c
theorem nr_x_w19 {post : Int32 → SX → Prop} {F : Nat → Nat} {a b x c : Nat} {n : Nat} {T : Nat → Prop} {W D P A : Nat → Nat} (hX : nr_cX n T W D P A f_certSet a_certOwner a_certName a_certPrincipal a_certPath) (hF : nr_FN n T W D P A F) (hC : nr_CA a_costs F) (ha : a < 6) (hb : b < 3) (hx : x < 6) (hc1 : 1 ≤ c) (hc : c < 1000)
    (h1 : ∀ j, j < 10 → nr_WI T W D P A F a b x c j → (∀ i, i < j → ¬ nr_WI T W D P A F a b x c i) → post (nI j) (f_principals, f_certSet, f_grantSet, f_openSet, f_solved, a_certOwner, a_certName, a_certPrincipal, a_certPath, a_grantOwner, a_grantPrincipal, a_grantPath, a_costs, a_settled, a_reach, a_trust, a_before)) (h0 : (∀ i, i < 10 → ¬ nr_WI T W D P A F a b x c i) → post (-1) (f_principals, f_certSet, f_grantSet, f_openSet, f_solved, a_certOwner, a_certName, a_certPrincipal, a_certPath, a_grantOwner, a_grantPrincipal, a_grantPath, a_costs, a_settled, a_reach, a_trust, a_before)) :
    ∃ l, wX_witness_19 post (nI a) (nI b) (nI x) (nI c) f_principals f_certSet f_grantSet f_openSet f_solved a_certOwner a_certName a_certPrincipal a_certPath a_grantOwner a_grantPrincipal a_grantPath a_costs a_settled a_reach a_trust a_before l 0 := by
  have hn6 := hX.1.2.1
  refine loop_0 (fun l i (_ : Unit) => wX_witness_19 post (nI a) (nI b) (nI x) (nI c) f_principals f_certSet f_grantSet f_openSet f_solved a_certOwner a_certName a_certPrincipal a_certPath a_grantOwner a_grantPrincipal a_grantPath a_costs a_settled a_reach a_trust a_before l (nI i)) (fun j _ => ∀ i, i < j → ¬ nr_WI T W D P A F a b x c i) 10 () (fun i hi => absurd hi (by omega)) ?_ ?_
  · intro l _ hI
    exact br_t (nI_le (Nat.le_refl 10) (by omega)) (h0 hI)
  · intro l j _ hj hI hn
    have hin : vp_in (nI j) 10 := vp_in_nI hj (by omega)
    have hcl : (nI j).toNatClampNeg = j := nI_clamp (by omega)
    have hbj := hX.1.2.2 j hj
    obtain ⟨e1, e2, e3, e4⟩ := hX.2.2 j hj
    have hsh := nr_sh_le (m := F) (p := P j) (a := A j) (x := x) (by omega) (by omega) (by omega) hF.1
    have hsb := nr_e_b (nr_sh F (P j) (A j) x)
    have skip : ¬ nr_WI T W D P A F a b x c j → ∀ q, q = nI j + 1 → wX_witness_19 post (nI a) (nI b) (nI x) (nI c) f_principals f_certSet f_grantSet f_openSet f_solved a_certOwner a_certName a_certPrincipal a_certPath a_grantOwner a_grantPrincipal a_grantPath a_costs a_settled a_reach a_trust a_before l q := fun hno => nm_r (nI_1 j) (hn () (lt_s hI hno))
    refine br_f (nI_ge (b := 10) hj (by omega)) ?_
    rw [hcl, e1, e2, e3, e4]
    refine nr_x_has hX hj (fun hT => br_f (by decide) ⟨hin, ?_⟩) (fun hT => br_t rfl (skip (fun z => hT z.1)))
    refine pk_eq (W j) a (fun q1 => ⟨hin, ?_⟩) (fun q1 => skip (fun z => q1 z.2.1))
    refine pk_eq (D j) b (fun q2 => ⟨hin, hin, ?_⟩) (fun q2 => skip (fun z => q2 z.2.2.1))
    refine nr_x_den hC (by omega) (by omega) hx ?_
    refine pk_eq (nr_e (nr_sh F (P j) (A j) x)) (c - 1) (fun q3 => ?_) (fun q3 => skip (fun z => q3 ?_)) rfl (pk_sub (b := 1) hc1)
    · refine h1 j hj ⟨hT, q1, q2, ?_⟩ hI
      unfold nr_e at q3
      split at q3 <;> omega
    · have := z.2.2.2
      rw [nr_e_lt (by omega)]; omega
theorem nr_y_w12 {post : Int32 → SY → Prop} {F : Nat → Nat} {a b x c : Nat} {n : Nat} {T : Nat → Prop} {W D P A : Nat → Nat} (hY : nr_cY n T W D P A f_n a_there a_who a_name a_subject a_path) (hF : nr_FN n T W D P A F) (hC : nr_YA a_member F) (ha : a < 6) (hb : b < 3) (hx : x < 6) (hc1 : 1 ≤ c) (hc : c < 1000)
    (h1 : ∀ j, j < 10 → nr_WI T W D P A F a b x c j → (∀ i, i < j → ¬ nr_WI T W D P A F a b x c i) → post (nI j) (f_n, a_there, a_who, a_name, a_subject, a_path, a_given, a_giver, a_target, a_targetPath, a_open, a_member, a_near)) (h0 : (∀ i, i < 10 → ¬ nr_WI T W D P A F a b x c i) → post (-1) (f_n, a_there, a_who, a_name, a_subject, a_path, a_given, a_giver, a_target, a_targetPath, a_open, a_member, a_near)) :
    ∃ l, wY_witness_12 post (nI a) (nI b) (nI x) (nI c) f_n a_there a_who a_name a_subject a_path a_given a_giver a_target a_targetPath a_open a_member a_near l 0 := by
  have hn6 := hY.1.2.1
  have hfn := hY.2.1
  refine loop_0 (fun l i (_ : Unit) => wY_witness_12 post (nI a) (nI b) (nI x) (nI c) f_n a_there a_who a_name a_subject a_path a_given a_giver a_target a_targetPath a_open a_member a_near l (nI i)) (fun j _ => ∀ i, i < j → ¬ nr_WI T W D P A F a b x c i) 10 () (fun i hi => absurd hi (by omega)) ?_ ?_
  · intro l _ hI
    exact br_t (nI_le (Nat.le_refl 10) (by omega)) (h0 hI)
  · intro l j _ hj hI hn
    have hin : vp_in (nI j) 10 := vp_in_nI hj (by omega)
    have hcl : (nI j).toNatClampNeg = j := nI_clamp (by omega)
    have hbj := hY.1.2.2 j hj
    obtain ⟨e1, e2, e3, e4⟩ := hY.2.2.2 j hj
    have hsh := nr_sh_le (m := F) (p := P j) (a := A j) (x := x) (by omega) (by omega) (by omega) hF.1
    have skip : ¬ nr_WI T W D P A F a b x c j → ∀ q, q = nI j + 1 → wY_witness_12 post (nI a) (nI b) (nI x) (nI c) f_n a_there a_who a_name a_subject a_path a_given a_giver a_target a_targetPath a_open a_member a_near l q := fun hno => nm_r (nI_1 j) (hn () (lt_s hI hno))
    refine br_f (nI_ge (b := 10) hj (by omega)) (br_f (nI_pos (by omega)) ⟨hin, ?_⟩)
    rw [hcl, e1, e2, e3, e4]
    refine br_c (fun z => skip (fun w => (hY.2.2.1 j hj).mp z w.1)) (fun z => ⟨hin, ?_⟩)
    have hT : T j := Classical.not_not.mp (fun w => z ((hY.2.2.1 j hj).mpr w))
    refine pk_eq (W j) a (fun q1 => ⟨hin, ?_⟩) (fun q1 => skip (fun z => q1 z.2.1))
    refine pk_eq (D j) b (fun q2 => ⟨hin, hin, ?_⟩) (fun q2 => skip (fun z => q2 z.2.2.1))
    refine nr_y_shown hfn hn6 hC (by omega) (by omega) hx (fun i hi h6 => nr_FN_hi hY.1 hF hi h6) ?_
    refine pk_eq (nr_sh F (P j) (A j) x) (c - 1) (fun q3 => ?_) (fun q3 => skip (fun z => q3 ?_)) rfl (pk_sub (b := 1) hc1)
    · exact h1 j hj ⟨hT, q1, q2, by omega⟩ hI
    · have := z.2.2.2
      omega
theorem nr_y_w12n {post : Int32 → SY → Prop} {v1 v2 v3 : Int32} (h : post (-1) (f_n, a_there, a_who, a_name, a_subject, a_path, a_given, a_giver, a_target, a_targetPath, a_open, a_member, a_near)) : ∃ l, wY_witness_12 post v1 v2 v3 (-1) f_n a_there a_who a_name a_subject a_path a_given a_giver a_target a_targetPath a_open a_member a_near l 0 :=
  ⟨1, br_f (by decide) (br_t (by decide) h)⟩
theorem i_vc_witness {k : Nat} {u : SX} {v : SY} (I : i_Rel k u v) (hk : k + 5 ≤ 2561) (v1 : Int32) (v2 : Int32) (v3 : Int32) : wpX_witness (fun r u' => wpY_witness (fun r' v' => r' = r ∧ i_Rel (k + 5) u' v') v v1 v2 v3) u v1 v2 v3 := by
  obtain ⟨f_principals, f_certSet, f_grantSet, f_openSet, f_solved, a_certOwner, a_certName, a_certPrincipal, a_certPath, a_grantOwner, a_grantPrincipal, a_grantPath, a_costs, a_settled, a_reach, a_trust, a_before⟩ := u
  obtain ⟨f_n, a_there, a_who, a_name, a_subject, a_path, a_given, a_giver, a_target, a_targetPath, a_open, a_member, a_near⟩ := v
  have I0 := I
  obtain ⟨n, T, W, D, P, A, G, O, U, V, B, hp, hX, hY, hhc, hgX, hgY, hhg, hsol⟩ := I
  have hc := hX.1
  have hn6 := hc.2.1
  have hfn := hY.2.1
  obtain ⟨F, hF⟩ := nr_FN_ex (T := T) hc
  unfold wpX_witness wpY_witness
  dsimp only
  by_cases kk : nr_PR n v1 ∧ nr_PR 3 v2 ∧ nr_PR n v3
  · obtain ⟨⟨a, ha, rfl⟩, ⟨b, hb, rfl⟩, ⟨x, hx, rfl⟩⟩ := kk
    have hcl := nr_cell_lt (k := a) (d := b) (x := x) (by omega) hb (by omega)
    refine nr_x_cost hX hp hF (fun z => hsol z F hF) ha hb hx (fun g co st hg hca => ?_)
    by_cases hl : F (nr_cell a b x) < 1000
    · have efd : nr_fd (F (nr_cell a b x)) = nI (F (nr_cell a b x)) := if_pos hl
      have hpos := nr_FN_pos hF hcl
      dsimp only
      rw [efd]
      refine br_t (nI_pos' (by omega)) ?_
      refine nr_x_w19 hX hF hca (by omega) hb (by omega) hpos hl (fun j hj w1 w2 => ?_) (fun w0 => ?_)
      · refine nr_y_cost hY hF ha hb hx (fun me hme => ?_)
        dsimp only
        rw [efd]
        refine nr_y_w12 hY hF hme (by omega) hb (by omega) hpos hl (fun j' hj' w1' w2' => ⟨?_, ⟨n, T, W, D, P, A, G, O, U, V, B, hp, hX, hY, hhc, hgX, hgY, hhg, fun _ F' hF' => nr_CA_eq hca (fun i hi => (nr_FN_1 hX.1 hF hF' i hi).symm)⟩⟩) (fun w0' => absurd w1 (w0' j hj))
        exact congrArg nI (nr_first_eq (T := fun i => ¬ nr_WI T W D P A F a b x (F (nr_cell a b x)) i) (fun z => z w1') w2' (fun z => z w1) w2)
      · refine nr_y_cost hY hF ha hb hx (fun me hme => ?_)
        dsimp only
        rw [efd]
        exact nr_y_w12 hY hF hme (by omega) hb (by omega) hpos hl (fun j' hj' w1' w2' => absurd w1' (w0 j' hj')) (fun w0' => ⟨rfl, ⟨n, T, W, D, P, A, G, O, U, V, B, hp, hX, hY, hhc, hgX, hgY, hhg, fun _ F' hF' => nr_CA_eq hca (fun i hi => (nr_FN_1 hX.1 hF hF' i hi).symm)⟩⟩)
    · have efd : nr_fd (F (nr_cell a b x)) = -1 := if_neg hl
      dsimp only
      rw [efd]
      refine br_f (by decide) (nr_y_cost hY hF ha hb hx (fun me hme => ?_))
      dsimp only
      rw [efd]
      exact nr_y_w12n ⟨rfl, ⟨n, T, W, D, P, A, G, O, U, V, B, hp, hX, hY, hhc, hgX, hgY, hhg, fun _ F' hF' => nr_CA_eq hca (fun i hi => (nr_FN_1 hX.1 hF hF' i hi).symm)⟩⟩
  · exact nr_x_cost0 hn6 hp kk (br_f (by decide) (nr_y_cost0 hn6 hfn kk (nr_y_w12n ⟨rfl, I0⟩)))
end
end
section
theorem nr_small {r : Int32} (h : ∀ q, q < 32 → bt r q = true → q < 6) : vp_nar .byte r.toInt8.toInt32 = r := by
  have h6 : r.toBitVec.toNat < 2 ^ 6 := by
    apply Nat.lt_pow_two_of_testBit
    intro i hi
    by_cases z : i < 32
    · apply Bool.eq_false_iff.mpr
      intro w
      have := h i z w
      omega
    · exact BitVec.getLsbD_of_ge r.toBitVec i (by omega)
  have e : r = nI r.toBitVec.toNat := by
    apply Int32.toBitVec_inj.mp
    show r.toBitVec = BitVec.ofNat 32 r.toBitVec.toNat
    rw [BitVec.ofNat_toNat, BitVec.setWidth_eq]
  rw [e]
  exact nr_byte h6
theorem nr_setback {x : Int32} {j : Nat} (hj : j < 32) (h : bt x j = true) : (x &&& (((1 : Int32) <<< (nI j &&& 31)) ^^^ (-1))) ||| ((1 : Int32) <<< (nI j &&& 31)) = x := by
  apply nr_bext
  intro i hi
  rw [nr_bset _ hj hi, nr_bclr _ hj hi]
  by_cases e : i = j
  · rw [e]; simp [h]
  · simp [e]
section
variable {f_principals f_certSet f_grantSet f_openSet f_solved : Int32} {a_certOwner a_certName a_certPrincipal a_certPath a_grantOwner a_grantPrincipal a_grantPath a_costs a_settled a_reach a_trust a_before : Nat → Int32}
variable {f_n : Int32} {a_there a_who a_name a_subject a_path a_given a_giver a_target a_targetPath a_open a_member a_near : Nat → Int32}
theorem nr_x_m72 {post : Int32 → SX → Prop} {F F' : Nat → Nat} {id : Nat} (hC : nr_CA a_costs F') (hbf : ∀ i, i < 18 → ∀ q, q < 32 → (bt (a_before i) q = true ↔ q < 6 ∧ F (nr_cell (i / 3) (i % 3) q) < 1000))
    (h : ∀ b, (b = 0 ∨ b = 1) → (b = 0 ↔ ∀ i, i < 18 → ∀ q, q < 6 → (F' (nr_cell (i / 3) (i % 3) q) < 1000 ↔ F (nr_cell (i / 3) (i % 3) q) < 1000)) → post b (f_principals, f_certSet ||| ((1 : Int32) <<< (nI id &&& 31)), f_grantSet, f_openSet, 0, a_certOwner, a_certName, a_certPrincipal, a_certPath, a_grantOwner, a_grantPrincipal, a_grantPath, a_costs, a_settled, a_reach, a_trust, a_before)) :
    ∃ l, wX_matters_72 post (nI id) f_principals f_certSet f_grantSet f_openSet f_solved a_certOwner a_certName a_certPrincipal a_certPath a_grantOwner a_grantPrincipal a_grantPath a_costs a_settled a_reach a_trust a_before l 0 0 := by
  refine loop_0 (fun l i (w : Int32) => wX_matters_72 post (nI id) f_principals f_certSet f_grantSet f_openSet f_solved a_certOwner a_certName a_certPrincipal a_certPath a_grantOwner a_grantPrincipal a_grantPath a_costs a_settled a_reach a_trust a_before l w (nI i)) (fun j w => (w = 0 ∨ w = 1) ∧ (w = 0 ↔ ∀ i, i < j → ∀ q, q < 6 → (F' (nr_cell (i / 3) (i % 3) q) < 1000 ↔ F (nr_cell (i / 3) (i % 3) q) < 1000))) 18 0 ⟨Or.inl rfl, fun _ i hi => absurd hi (by omega), fun _ => rfl⟩ ?_ ?_
  · intro l w hI
    refine br_t (nI_le (Nat.le_refl 18) (by omega)) (nm_e ⟨?_, h w hI.1 hI.2⟩)
    rcases hI.1 with z | z <;> rw [z] <;> rfl
  · intro l i w hi hI hn
    obtain ⟨i1, i2⟩ := hI
    have hin : vp_in (nI i) 18 := vp_in_nI hi (by omega)
    have hcl : (nI i).toNatClampNeg = i := nI_clamp (by omega)
    have d1 : nI i / 3 = nI (i / 3) := pk_div (d := 3) (by omega) (by omega) (by omega)
    have d2 : nI i - nI i / 3 * 3 = nI (i % 3) := pk_rem (d := 3) (by omega) (by omega) (by omega)
    refine br_f (nI_ge (b := 18) hi (by omega)) ⟨by decide, by decide, ?_⟩
    rw [d2, d1]
    refine nr_x_ms hC (by omega) (by omega) (fun r hr => ⟨hin, ?_⟩)
    rw [hcl]
    refine br_c (fun e => nm_r (nI_1 i) (hn w ⟨i1, ?_⟩)) (fun e => nm_r (nI_1 i) (hn 1 ⟨Or.inr rfl, ?_⟩))
    · rw [i2]
      refine ⟨fun z => lt_s z (fun q hq => ?_), fun z j hj => z j (by omega)⟩
      have h1 := hr q (by omega)
      have h2 := hbf i hi q (by omega)
      rw [e, h2] at h1
      constructor
      · intro w2; exact (h1.mpr ⟨hq, w2⟩).2
      · intro w2; exact (h1.mp ⟨hq, w2⟩).2
    · refine ⟨fun z => absurd z (by decide), fun z => absurd ?_ e⟩
      apply nr_bext
      intro q hq
      rw [hr q hq, hbf i hi q hq]
      by_cases h6 : q < 6
      · rw [z i (by omega) q h6]
      · simp [h6]
theorem nr_x_matters {post : Int32 → SX → Prop} {F F' : Nat → Nat} {id : Nat} {n : Nat} {T : Nat → Prop} {W D P A : Nat → Nat} (hX : nr_cX n T W D P A f_certSet a_certOwner a_certName a_certPrincipal a_certPath) (hid : id < 10) (hT : T id) (hF : nr_FN n T W D P A F) (hs : ¬ f_solved = 0 → nr_CA a_costs F) (hF' : nr_FN n (fun i => T i ∧ i ≠ id) W D P A F')
    (h : ∀ b co st bf, (b = 0 ∨ b = 1) → (b = 0 ↔ ∀ i, i < 18 → ∀ q, q < 6 → (F' (nr_cell (i / 3) (i % 3) q) < 1000 ↔ F (nr_cell (i / 3) (i % 3) q) < 1000)) → post b (f_principals, f_certSet, f_grantSet, f_openSet, 0, a_certOwner, a_certName, a_certPrincipal, a_certPath, a_grantOwner, a_grantPrincipal, a_grantPath, co, st, a_reach, a_trust, bf)) :
    wpX_matters post (f_principals, f_certSet, f_grantSet, f_openSet, f_solved, a_certOwner, a_certName, a_certPrincipal, a_certPath, a_grantOwner, a_grantPrincipal, a_grantPath, a_costs, a_settled, a_reach, a_trust, a_before) (nI id) := by
  have hX' : nr_cX n (fun i => T i ∧ i ≠ id) W D P A (f_certSet &&& (((1 : Int32) <<< (nI id &&& 31)) ^^^ (-1))) a_certOwner a_certName a_certPrincipal a_certPath :=
    ⟨hX.1, fun i hi => by rw [nr_bclr _ (by omega) (by omega), hX.2.1 i hi], hX.2.2⟩
  unfold wpX_matters
  dsimp only
  refine nr_x_has hX hid (fun _ => br_f (by decide) ?_) (fun z => absurd hT z)
  refine nr_x_solve hX hF hs (fun g co st hg hca => ?_)
  refine loop_0 (fun l i (w : Nat → Int32) => wX_matters_16 post (nI id) f_principals f_certSet f_grantSet f_openSet g l (nI i) a_certOwner a_certName a_certPrincipal a_certPath a_grantOwner a_grantPrincipal a_grantPath co st a_reach a_trust w) (fun j w => ∀ i, i < j → ∀ q, q < 32 → (bt (w i) q = true ↔ q < 6 ∧ F (nr_cell (i / 3) (i % 3) q) < 1000)) 18 a_before (fun i hi => absurd hi (by omega)) ?_ ?_
  · intro l bf hbf
    refine br_t (nI_le (Nat.le_refl 18) (by omega)) (nm_e ?_)
    refine nr_x_solve hX' hF' (fun z => absurd rfl z) (fun g2 co2 st2 _ hca2 => ?_)
    refine nr_x_m72 hca2 hbf (fun b hb hb2 => ?_)
    rw [nr_setback (by omega) ((hX.2.1 id hid).mpr hT)]
    exact h b co2 st2 bf hb hb2
  · intro l i w hi hI hn
    have hin : vp_in (nI i) 18 := vp_in_nI hi (by omega)
    have hcl : (nI i).toNatClampNeg = i := nI_clamp (by omega)
    have d1 : nI i / 3 = nI (i / 3) := pk_div (d := 3) (by omega) (by omega) (by omega)
    have d2 : nI i - nI i / 3 * 3 = nI (i % 3) := pk_rem (d := 3) (by omega) (by omega) (by omega)
    refine br_f (nI_ge (b := 18) hi (by omega)) ⟨by decide, by decide, ?_⟩
    rw [d2, d1]
    refine nr_x_ms hca (by omega) (by omega) (fun r hr => ⟨hin, nm_r (e' := upd w i r) ?_ (nm_r (nI_1 i) (hn (upd w i r) (lt_s (fun j hj => ?_) ?_)))⟩)
    · rw [hcl, nr_small (fun q hq z => ((hr q hq).mp z).1)]
    · rw [pk_un (by omega)]; exact hI j hj
    · rw [pk_us]; exact hr
theorem nr_y_count {post : Int32 → SY → Prop} {F : Nat → Nat} {n : Nat} {T : Nat → Prop} {W D P A : Nat → Nat} (hY : nr_cY n T W D P A f_n a_there a_who a_name a_subject a_path) (hF : nr_FN n T W D P A F) (h : ∀ me, nr_YA me F → post (nI (nr_cnt (fun i => decide (F i < 1000)) 108)) (f_n, a_there, a_who, a_name, a_subject, a_path, a_given, a_giver, a_target, a_targetPath, a_open, me, a_near)) : wpY_countMembers post (f_n, a_there, a_who, a_name, a_subject, a_path, a_given, a_giver, a_target, a_targetPath, a_open, a_member, a_near) := by
  unfold wpY_countMembers
  dsimp only
  refine nr_y_work hY hF (fun me hme => ?_)
  refine loop_0 (fun l i (w : Int32) => wY_countMembers_8 post f_n a_there a_who a_name a_subject a_path a_given a_giver a_target a_targetPath a_open me a_near l w (nI i)) (fun j w => w = nI (nr_cnt (fun i => decide (F i < 1000)) j)) 108 0 rfl ?_ ?_
  · intro l w hI
    refine br_t (nI_le (Nat.le_refl 108) (by omega)) ?_
    rw [hI]; exact h me hme
  · intro l i w hi hI hn
    have hin : vp_in (nI i) 108 := vp_in_nI hi (by omega)
    have hcl : (nI i).toNatClampNeg = i := nI_clamp (by omega)
    obtain ⟨g1, g2⟩ := hme i hi
    refine br_f (nI_ge (b := 108) hi (by omega)) ⟨hin, ?_⟩
    rw [hcl, g1, hI]
    refine pk_le 1000 (F i) (fun z => nm_r (nI_add _ 0) (nm_r (nI_1 i) (hn _ ?_))) (fun z => nm_r (nI_1 _) (nm_r (nI_1 i) (hn _ ?_)))
    · show nI (nr_cnt (fun i => decide (F i < 1000)) i + 0) = nI (nr_cnt (fun i => decide (F i < 1000)) i + (if decide (F i < 1000) = true then 1 else 0))
      rw [if_neg (by simp; omega)]
    · show nI (nr_cnt (fun i => decide (F i < 1000)) i + 1) = nI (nr_cnt (fun i => decide (F i < 1000)) i + (if decide (F i < 1000) = true then 1 else 0))
      rw [if_pos (by simp; omega)]
theorem nr_same {F F' : Nat → Nat} (hle : ∀ i, i < 108 → F i ≤ F' i) : (∀ i, i < 18 → ∀ q, q < 6 → (F' (nr_cell (i / 3) (i % 3) q) < 1000 ↔ F (nr_cell (i / 3) (i % 3) q) < 1000)) ↔ nr_cnt (fun i => decide (F i < 1000)) 108 ≤ nr_cnt (fun i => decide (F' i < 1000)) 108 := by
  constructor
  · intro h
    refine nr_cnt_mono (fun i hi z => ?_)
    have z := of_decide_eq_true z
    have h1 := h (i / 6) (by omega) (i % 6) (by omega)
    have e : nr_cell (i / 6 / 3) (i / 6 % 3) (i % 6) = i := by unfold nr_cell; omega
    rw [e] at h1
    exact decide_eq_true (h1.mpr z)
  · intro h i hi q hq
    have hcl : nr_cell (i / 3) (i % 3) q < 108 := nr_cell_lt (by omega) (by omega) hq
    refine ⟨fun z => Nat.lt_of_le_of_lt (hle _ hcl) z, fun z => ?_⟩
    apply Classical.byContradiction
    intro w
    have := nr_cnt_lt (p := fun i => decide (F' i < 1000)) (q := fun i => decide (F i < 1000)) hcl (fun j hj u => decide_eq_true (Nat.lt_of_le_of_lt (hle j hj) (of_decide_eq_true u))) (fun u => w (of_decide_eq_true u)) (decide_eq_true z)
    omega
theorem i_vc_matters {k : Nat} {u : SX} {v : SY} (I : i_Rel k u v) (hk : k + 5 ≤ 2561) (v1 : Int32) : wpX_matters (fun r u' => wpY_matters (fun r' v' => r' = r ∧ i_Rel (k + 5) u' v') v v1) u v1 := by
  obtain ⟨f_principals, f_certSet, f_grantSet, f_openSet, f_solved, a_certOwner, a_certName, a_certPrincipal, a_certPath, a_grantOwner, a_grantPrincipal, a_grantPath, a_costs, a_settled, a_reach, a_trust, a_before⟩ := u
  obtain ⟨f_n, a_there, a_who, a_name, a_subject, a_path, a_given, a_giver, a_target, a_targetPath, a_open, a_member, a_near⟩ := v
  have I0 := I
  obtain ⟨n, T, W, D, P, A, G, O, U, V, B, hp, hX, hY, hhc, hgX, hgY, hhg, hsol⟩ := I
  have hc := hX.1
  by_cases k1 : nr_PR 10 v1
  · obtain ⟨j, hj, rfl⟩ := k1
    have hin : vp_in (nI j) 10 := vp_in_nI hj (by omega)
    have hcl : (nI j).toNatClampNeg = j := nI_clamp (by omega)
    by_cases hT : T j
    · obtain ⟨F, hF⟩ := nr_FN_ex (T := T) hc
      obtain ⟨F', hF'⟩ := nr_FN_ex (T := fun i => T i ∧ i ≠ j) hc
      have hle : ∀ i, i < 108 → F i ≤ F' i := nr_less (nr_SN hc) (fun r hr => ⟨hr.1, hr.2.1.1, hr.2.2⟩) hF' hF
      have hY' : nr_cY n (fun i => T i ∧ i ≠ j) W D P A f_n (upd a_there j 0) a_who a_name a_subject a_path := by
        refine ⟨hc, hY.2.1, fun i hi => ?_, hY.2.2.2⟩
        by_cases z : i = j
        · rw [z, pk_us]; simp
        · rw [pk_un z, hY.2.2.1 i hi]; simp [z]
      have hY2 : nr_cY n T W D P A f_n (upd (upd a_there j 0) j 1) a_who a_name a_subject a_path := by
        refine ⟨hc, hY.2.1, fun i hi => ?_, hY.2.2.2⟩
        by_cases z : i = j
        · rw [z, pk_us]; simp [hT]
        · rw [pk_un z, pk_un z]; exact hY.2.2.1 i hi
      refine nr_x_matters hX hj hT hF (fun z => hsol z F hF) hF' (fun b co st bf hb hb2 => ?_)
      rw [nr_same hle] at hb2
      have c1 := nr_cnt_le (fun i => decide (F i < 1000)) 108
      have c2 := nr_cnt_le (fun i => decide (F' i < 1000)) 108
      show wpY_matters _ _ _
      unfold wpY_matters
      dsimp only
      rw [hcl]
      refine nr_r9t hj ⟨hin, br_f (fun z => (hY.2.2.1 j hj).mp z hT) ?_⟩
      refine nr_y_count hY hF (fun me hme => ⟨hin, nm_r (e' := upd a_there j 0) rfl ?_⟩)
      refine nr_y_count hY' hF' (fun me2 hme2 => ⟨hin, nm_r (e' := upd (upd a_there j 0) j 1) rfl ?_⟩)
      refine pk_le (nr_cnt (fun i => decide (F i < 1000)) 108) (nr_cnt (fun i => decide (F' i < 1000)) 108) (fun z => ⟨(hb2.mpr z).symm, ?_⟩) (fun z => ⟨?_, ?_⟩)
      · exact ⟨n, T, W, D, P, A, G, O, U, V, B, hp, hX, hY2, hhc, hgX, hgY, hhg, fun z => absurd rfl z⟩
      · rcases hb with e | e
        · exact absurd (hb2.mp e) (by omega)
        · exact e.symm
      · exact ⟨n, T, W, D, P, A, G, O, U, V, B, hp, hX, hY2, hhc, hgX, hgY, hhg, fun z => absurd rfl z⟩
    · unfold wpX_matters wpY_matters
      dsimp only
      refine nr_x_has hX hj (fun z => absurd z hT) (fun _ => br_t rfl (nr_r9t hj ⟨hin, ?_⟩))
      rw [hcl]
      exact br_t ((hY.2.2.1 j hj).mpr hT) ⟨rfl, I0⟩
  · unfold wpX_matters wpY_matters
    dsimp only
    exact nr_x_has0 k1 (br_t rfl (nr_r9f k1 ⟨rfl, I0⟩))
end
end
section
/-! the system of the grants: cg g x is the cost at which grant g denotes x -/
def nr_gE (n : Nat) (G O : Nat → Prop) : Option (Nat × Nat) → Prop
  | none => True
  | some r => r.1 < 6 ∧ G r.1 ∧ O r.1 ∧ r.2 < n
def nr_gt (k : Nat) : Option (Nat × Nat) → Nat
  | none => k
  | some r => r.2
def nr_gv (U : Nat → Nat) (cg : Nat → Nat → Nat) : Option (Nat × Nat) → (Nat → Nat) → Nat
  | none, _ => 0
  | some r, m => m (U r.1) + 1 + cg r.1 r.2
def nr_FG (n : Nat) (G O : Nat → Prop) (U : Nat → Nat) (cg : Nat → Nat → Nat) (k : Nat) (R : Nat → Nat) : Prop := nr_FIX 6 (nr_gE n G O) (nr_gt k) (nr_gv U cg) R
theorem nr_MG {n : Nat} {G O : Nat → Prop} {U : Nat → Nat} {cg : Nat → Nat → Nat} (hU : ∀ g, g < 6 → U g < 6) : nr_MON 6 (nr_gE n G O) (nr_gv U cg) := by
  intro r hr m m' hm
  cases r with
  | none => exact Nat.le_refl _
  | some r =>
    have h1 := hm (U r.1) (hU r.1 hr.1)
    show m (U r.1) + 1 + cg r.1 r.2 ≤ m' (U r.1) + 1 + cg r.1 r.2
    omega
theorem nr_SG {n : Nat} {G O : Nat → Prop} {U : Nat → Nat} {cg : Nat → Nat → Nat} (hU : ∀ g, g < 6 → U g < 6) : nr_SUP 6 (nr_gE n G O) (nr_gv U cg) := by
  intro r hr m m' hv hm
  cases r with
  | none => exact Nat.le_refl _
  | some r =>
    have h1 := hm (U r.1) (hU r.1 hr.1)
    have h2 : m (U r.1) < m (U r.1) + 1 + cg r.1 r.2 := by omega
    have h3 := h1 h2
    show m' (U r.1) + 1 + cg r.1 r.2 ≤ m (U r.1) + 1 + cg r.1 r.2
    omega
theorem nr_tG {n : Nat} {G O : Nat → Prop} {k : Nat} (hn : n ≤ 6) (hk : k < 6) : ∀ r, nr_gE n G O r → nr_gt k r < 6 := by
  intro r hr
  cases r with
  | none => exact hk
  | some r => exact Nat.lt_of_lt_of_le hr.2.2.2 hn
theorem nr_FG_ex {n : Nat} {G O : Nat → Prop} {U : Nat → Nat} (cg : Nat → Nat → Nat) {k : Nat} (hn : n ≤ 6) (hk : k < 6) (hU : ∀ g, g < 6 → U g < 6) : ∃ R, nr_FG n G O U cg k R := nr_ex (nr_MG hU) (nr_tG hn hk)
/-! the cost of trust by the reach R -/
def nr_TR (G : Nat → Prop) (U : Nat → Nat) (cg : Nat → Nat → Nat) (R : Nat → Nat) (q x : Nat) : Prop := q ≤ 1000 ∧ (∀ g, g < 6 → G g → q ≤ R (U g) + 1 + cg g x) ∧ (q < 1000 → ∃ g, g < 6 ∧ G g ∧ R (U g) + 1 + cg g x ≤ q)
theorem nr_TR_1 {G : Nat → Prop} {U : Nat → Nat} {cg : Nat → Nat → Nat} {R : Nat → Nat} {q q' x : Nat} (h : nr_TR G U cg R q x) (h' : nr_TR G U cg R q' x) : q = q' := by
  have key : ∀ a b, nr_TR G U cg R a x → nr_TR G U cg R b x → a ≤ b := by
    intro a b ha hb
    by_cases z : b < 1000
    · obtain ⟨g, g6, hg, hv⟩ := hb.2.2 z
      exact Nat.le_trans (ha.2.1 g g6 hg) hv
    · have := ha.1
      omega
  exact Nat.le_antisymm (key q q' h h') (key q' q h' h)
theorem nr_TR_eq {G : Nat → Prop} {U : Nat → Nat} {cg : Nat → Nat → Nat} {R R' : Nat → Nat} {q x : Nat} (hU : ∀ g, g < 6 → U g < 6) (h : nr_TR G U cg R q x) (e : ∀ i, i < 6 → R i = R' i) : nr_TR G U cg R' q x :=
  ⟨h.1, fun g h6 hg => by rw [← e _ (hU g h6)]; exact h.2.1 g h6 hg, fun z => by
    obtain ⟨g, g6, hg, hv⟩ := h.2.2 z
    exact ⟨g, g6, hg, by rw [← e _ (hU g g6)]; exact hv⟩⟩
theorem nr_TR_hi {G : Nat → Prop} {U : Nat → Nat} {cg : Nat → Nat → Nat} {R : Nat → Nat} {q x : Nat} (h : nr_TR G U cg R q x) (hx : ∀ g, g < 6 → cg g x = 1000) : q = 1000 := by
  have h1 := h.1
  by_cases z : q < 1000
  · obtain ⟨g, g6, hg, hv⟩ := h.2.2 z
    have := hx g g6
    omega
  · omega
/-! one round: all grants of the principal y that was settled just now -/
def nr_SR (G O : Nat → Prop) (U : Nat → Nat) (cg : Nat → Nat → Nat) (y μ j i v : Nat) : Prop := ∃ g, g < j ∧ G g ∧ O g ∧ U g = y ∧ i < 6 ∧ v = μ + 1 + cg g i
def nr_SQ (G : Nat → Prop) (U : Nat → Nat) (cg : Nat → Nat → Nat) (y μ j i v : Nat) : Prop := ∃ g, g < j ∧ G g ∧ U g = y ∧ i < 6 ∧ v = μ + 1 + cg g i
def nr_TI (G : Nat → Prop) (U : Nat → Nat) (cg : Nat → Nat → Nat) (R Q : Nat → Nat) (s : Nat → Bool) : Prop :=
  ∀ x, x < 6 → Q x ≤ 1000 ∧ (∀ g, g < 6 → G g → s (U g) = true → Q x ≤ R (U g) + 1 + cg g x) ∧ (Q x < 1000 → ∃ g, g < 6 ∧ G g ∧ s (U g) = true ∧ R (U g) + 1 + cg g x ≤ Q x)
theorem nr_round {n : Nat} {G O : Nat → Prop} {U : Nat → Nat} {cg : Nat → Nat → Nat} {k y : Nat} (hn : n ≤ 6) (hU : ∀ g, g < 6 → U g < 6) (hcg : ∀ g x, g < 6 → x < 6 → n ≤ x → cg g x = 1000)
    {R R' Q Q' : Nat → Nat} {s s' : Nat → Bool} (hD : nr_DIN 6 (nr_gE n G O) (nr_gt k) (nr_gv U cg) R s) (hI : nr_TI G U cg R Q s) (hy : y < 6) (hys : ¬ s y = true) (hy1 : R y < 1000) (hmin : ∀ j, j < 6 → ¬ s j = true → R y ≤ R j)
    (hs : ∀ i, i < 6 → (s' i = true ↔ s i = true ∨ i = y)) (hR : nr_OF R R' (nr_SR G O U cg y (R y) 6)) (hQ : nr_OF Q Q' (nr_SQ G U cg y (R y) 6)) :
    nr_DIN 6 (nr_gE n G O) (nr_gt k) (nr_gv U cg) R' s' ∧ nr_TI G U cg R' Q' s' := by
  have sy : s' y = true := (hs y hy).mpr (Or.inr rfl)
  have gtR : ∀ i v, nr_SR G O U cg y (R y) 6 i v → R y < v := by
    intro i v ⟨g, _, _, _, _, _, e⟩
    omega
  have old : ∀ i, i < 6 → i ≠ y → nr_msk s' R i = nr_msk s R i := by
    intro i hi ne
    by_cases z : s i = true
    · rw [nr_msk_t z, nr_msk_t ((hs i hi).mpr (Or.inl z))]
    · rw [nr_msk_f z, nr_msk_f (fun w => ((hs i hi).mp w).elim z ne)]
  have keep : ∀ i, i < 6 → s' i = true → R' i = R i := by
    intro i hi z
    refine nr_OF_keep hR gtR ?_
    rcases (hs i hi).mp z with z | z
    · exact hD.2.2.1 i y hi hy z hys
    · rw [z]; exact Nat.le_refl _
  refine ⟨nr_step (nr_MG hU) hD hy hys hy1 hmin hs (fun i _ => hR.1 i) (fun i hi => ?_) (fun r hr => ?_), fun x hx => ⟨?_, fun g h6 hg z => ?_, fun z => ?_⟩⟩
  · rcases hR.2.1 i with e | e
    · exact Or.inl e
    · right
      have h2 := gtR _ _ e
      obtain ⟨g, h6, hg, ho, hu, _, hv⟩ := e
      have hin : i < n := by
        apply Nat.lt_of_not_le
        intro z
        have h3 := hcg g i h6 hi z
        have h4 := hR.1 i
        have h5 := hD.1 i hi
        omega
      refine ⟨h2, some (g, i), ⟨h6, hg, ho, hin⟩, rfl, ?_⟩
      show nr_msk s' R (U g) + 1 + cg g i ≤ _
      rw [hu, nr_msk_t sy, hv]; exact Nat.le_refl _
  · cases r with
    | none =>
      have h1 : R k ≤ 0 := hD.2.2.2.1 none trivial
      exact Nat.le_trans (hR.1 k) h1
    | some r =>
      obtain ⟨g, x⟩ := r
      obtain ⟨r1, r2, r3, r4⟩ := hr
      have r1 : g < 6 := r1
      have r4 : x < n := r4
      show R' x ≤ nr_msk s' R (U g) + 1 + cg g x
      by_cases e : U g = y
      · rw [e, nr_msk_t sy]
        exact hR.2.2 _ _ ⟨g, r1, r2, r3, e, by omega, rfl⟩
      · rw [old _ (hU g r1) e]
        exact Nat.le_trans (hR.1 x) (hD.2.2.2.1 (some (g, x)) ⟨r1, r2, r3, r4⟩)
  · exact Nat.le_trans (hQ.1 x) (hI x hx).1
  · rw [keep _ (hU g h6) z]
    by_cases e : U g = y
    · rw [e]; exact hQ.2.2 _ _ ⟨g, h6, hg, e, hx, rfl⟩
    · have z' := ((hs _ (hU g h6)).mp z).resolve_right e
      exact Nat.le_trans (hQ.1 x) ((hI x hx).2.1 g h6 hg z')
  · rcases hQ.2.1 x with e | ⟨g, h6, hg, hu, _, hv⟩
    · obtain ⟨g, h6, hg, hsg, hv⟩ := (hI x hx).2.2 (by omega)
      have z' := (hs _ (hU g h6)).mpr (Or.inl hsg)
      exact ⟨g, h6, hg, z', by rw [keep _ (hU g h6) z']; omega⟩
    · refine ⟨g, h6, hg, by rw [hu]; exact sy, ?_⟩
      rw [hu, keep y hy sy]; omega
theorem nr_TI_end {n : Nat} {G O : Nat → Prop} {U : Nat → Nat} {cg : Nat → Nat → Nat} {k : Nat} (hU : ∀ g, g < 6 → U g < 6) {R Q RG : Nat → Nat} {s : Nat → Bool} (hG : nr_FG n G O U cg k RG) (hD : nr_DIN 6 (nr_gE n G O) (nr_gt k) (nr_gv U cg) R s) (hI : nr_TI G U cg R Q s)
    (ha : ∀ i, i < 6 → s i = true ∨ 1000 ≤ R i) : ∀ x, x < 6 → nr_TR G U cg RG (Q x) x := by
  intro x hx
  have hu := nr_uniq (nr_SG hU) hG (nr_end (nr_MG hU) hD ha)
  refine nr_TR_eq hU (R := R) ⟨(hI x hx).1, fun g h6 hg => ?_, fun z => ?_⟩ hu
  · by_cases z : s (U g) = true
    · exact (hI x hx).2.1 g h6 hg z
    · have h1 := (ha _ (hU g h6)).resolve_left z
      have h2 := (hI x hx).1
      omega
  · obtain ⟨g, h6, hg, _, hv⟩ := (hI x hx).2.2 z
    exact ⟨g, h6, hg, hv⟩
theorem nr_G0 {n : Nat} {G O : Nat → Prop} {U : Nat → Nat} {cg : Nat → Nat → Nat} {k : Nat} (hn : n ≤ 6) (hk : k < 6) {R : Nat → Nat} {s : Nat → Bool} (hU : ∀ g, g < 6 → U g < 6) (hs : ∀ i, i < 6 → ¬ s i = true) (h0 : R k = 0) (h1 : ∀ i, i < 6 → i ≠ k → R i = 1000) : nr_DIN 6 (nr_gE n G O) (nr_gt k) (nr_gv U cg) R s := by
  have b : ∀ i, i < 6 → R i ≤ 1000 := by
    intro i hi
    by_cases e : i = k
    · rw [e]; omega
    · have := h1 i hi e; omega
  refine ⟨b, fun i hi z => absurd z (hs i hi), fun i j hi hj z _ => absurd z (hs i hi), fun r hr => ?_, fun i hi hl => ?_⟩
  · cases r with
    | none => exact Nat.le_of_eq h0
    | some r =>
      show R r.2 ≤ nr_msk s R (U r.1) + 1 + cg r.1 r.2
      rw [nr_msk_f (hs _ (hU _ hr.1))]
      have := b r.2 (Nat.lt_of_lt_of_le hr.2.2.2 hn)
      omega
  · by_cases e : i = k
    · exact ⟨none, trivial, e.symm, Nat.zero_le _⟩
    · have := h1 i hi e; omega
theorem nr_sh_hi {n : Nat} {T : Nat → Prop} {W D P A F : Nat → Nat} (hc : nr_CF n W D P A) (hF : nr_FN n T W D P A F) {p a x : Nat} (hp : p < n) (ha : a ≤ 12) (hx : x < 6) (hn : n ≤ x) : nr_sh F p a x = 1000 := by
  have hn6 := hc.2.1
  have hi : ∀ q d, q < 6 → d < 3 → F (nr_cell q d x) = 1000 := fun q d hq hd => nr_FN_hi hc hF (nr_cell_lt hq hd hx) (by rw [nr_cell_x hx]; exact hn)
  by_cases h0 : a = 0
  · rw [nr_sh_0 h0, if_neg (by omega)]
  · by_cases h3 : a ≤ 3
    · rw [nr_sh_1 (by omega) h3]; exact hi _ _ (by omega) (by omega)
    · rw [nr_sh_2 (by omega)]
      refine Nat.le_antisymm (nr_mq_1000 _ _) (nr_le_mq (Nat.le_refl _) (fun q hq => ?_))
      have := hi q ((a - 4) % 3) hq (by omega)
      omega
end
section
def nr_RA (a : Nat → Int32) (m : Nat → Nat) : Prop := ∀ i, i < 6 → a i = nI (nr_e (m i)) ∧ m i ≤ 1000
theorem nr_RA_up {a : Nat → Int32} {m : Nat → Nat} {c v : Nat} (h : nr_RA a m) (hv : v < 1000) : nr_RA (upd a c (nI v)) (nr_up m c v) := by
  intro i hi
  by_cases e : i = c
  · rw [e, pk_us, nr_up_s, nr_e_lt hv]; exact ⟨rfl, by omega⟩
  · rw [pk_un e, nr_up_n e]; exact h i hi
def nr_cg (F V B : Nat → Nat) (g x : Nat) : Nat := nr_sh F (V g) (B g) x
theorem nr_of_e {R : Nat → Nat} {x w c : Nat} (h : R x ≤ 1000) : nr_of R x (w + 1 + nr_e c) = nr_of R x (w + 1 + c) := by
  by_cases z : c < 1000
  · rw [nr_e_lt z]
  · unfold nr_of
    rw [nr_e_ge (by omega), if_neg (by omega), if_neg (by omega)]
theorem nr_of_no {R : Nat → Nat} {x v : Nat} (h : R x ≤ v) : nr_of R x v = R := by
  unfold nr_of; rw [if_neg (by omega)]
theorem nr_of_yes {R : Nat → Nat} {x v : Nat} (h : v < R x) : nr_of R x v = nr_up R x v := by
  unfold nr_of; rw [if_pos h]
section
variable {f_principals f_certSet f_grantSet f_openSet f_solved : Int32} {a_certOwner a_certName a_certPrincipal a_certPath a_grantOwner a_grantPrincipal a_grantPath a_costs a_settled a_reach a_trust a_before : Nat → Int32}
theorem nr_x_nearest {post : Int32 → Prop} {R : Nat → Nat} {dn : Int32} (hR : nr_RA a_reach R)
    (h0 : (∀ i, i < 6 → bt dn i = true ∨ 1000 ≤ R i) → post (-1))
    (h1 : ∀ b, b < 6 → ¬ bt dn b = true → R b < 1000 → (∀ j, j < 6 → ¬ bt dn j = true → R b ≤ R j) → post (nI b)) : wpX_nearest post (f_principals, f_certSet, f_grantSet, f_openSet, f_solved, a_certOwner, a_certName, a_certPrincipal, a_certPath, a_grantOwner, a_grantPrincipal, a_grantPath, a_costs, a_settled, a_reach, a_trust, a_before) dn := by
  refine loop_0 (fun n i (x : Int32) => wX_nearest_4 post dn f_principals f_certSet f_grantSet f_openSet f_solved a_certOwner a_certName a_certPrincipal a_certPath a_grantOwner a_grantPrincipal a_grantPath a_costs a_settled a_reach a_trust a_before n x (nI i)) (fun j x => (x = -1 ∧ ∀ i, i < j → bt dn i = true ∨ 1000 ≤ R i) ∨ (∃ b, b < j ∧ x = nI b ∧ ¬ bt dn b = true ∧ R b < 1000 ∧ ∀ i, i < j → ¬ bt dn i = true → R b ≤ R i)) 6 (-1) (Or.inl ⟨rfl, fun i hi => absurd hi (by omega)⟩) ?_ ?_
  · intro n x hI
    refine br_t (nI_le (Nat.le_refl 6) (by omega)) ?_
    rcases hI with ⟨rfl, h⟩ | ⟨b, hb, rfl, g1, g2, g3⟩
    · exact h0 h
    · exact h1 b hb g1 g2 g3
  · intro n i x hi hI hn
    have hin := vp_in_nI (N := 6) hi (by omega)
    have hcl : (nI i).toNatClampNeg = i := nI_clamp (by omega)
    obtain ⟨hc, hm⟩ := hR i hi
    have he := nr_e_b (R i)
    refine br_f (nI_ge (b := 6) hi (by omega)) ?_
    rw [hcl]
    refine br_c (fun z => ⟨hin, ?_⟩) (fun z => ?_)
    · rw [nr_bit _ (by omega)] at z
      rw [hc]
      refine pk_le 1048576 (nr_e (R i)) (fun hf => ?_) (fun hf => ?_)
      · rw [nr_e_far] at hf
        refine nm_r (nI_1 i) (hn x ?_)
        rcases hI with ⟨rfl, h⟩ | ⟨b, hb, rfl, g1, g2, g3⟩
        · exact Or.inl ⟨rfl, lt_s h (Or.inr hf)⟩
        · exact Or.inr ⟨b, by omega, rfl, g1, g2, lt_s g3 (fun _ => by omega)⟩
      · have hf' : R i < 1000 := by
          have := nr_e_far (v := R i)
          omega
        rcases hI with ⟨rfl, h⟩ | ⟨b, hb, rfl, g1, g2, g3⟩
        · refine br_t (by decide) (nm_r (nI_1 i) ?_)
          refine hn (nI i) (Or.inr ⟨i, by omega, rfl, z, hf', lt_s (fun j hj zj => ?_) (fun _ => Nat.le_refl _)⟩)
          have := (h j hj).resolve_left zj
          omega
        · have hbin := vp_in_nI (N := 6) (n := b) (by omega) (by omega)
          have hbc : (nI b).toNatClampNeg = b := nI_clamp (by omega)
          obtain ⟨hcb, hmb⟩ := hR b (by omega)
          have heb := nr_e_b (R b)
          refine br_f (nI_pos (by omega)) ⟨hin, hbin, ?_⟩
          rw [hbc, hcb]
          refine pk_le (nr_e (R b)) (nr_e (R i)) (fun hl => nm_r (nI_1 i) ?_) (fun hl => nm_r (nI_1 i) ?_)
          · rw [nr_e_le hmb hm] at hl
            exact hn (nI b) (Or.inr ⟨b, by omega, rfl, g1, g2, lt_s g3 (fun _ => hl)⟩)
          · have hl' : R i < R b := by
              have := nr_e_le hmb hm
              omega
            refine hn (nI i) (Or.inr ⟨i, by omega, rfl, z, hf', lt_s (fun j hj zj => ?_) (fun _ => Nat.le_refl _)⟩)
            have := g3 j hj zj
            omega
    · rw [nr_bit _ (by omega)] at z
      have z := Classical.not_not.mp z
      refine nm_r (nI_1 i) (hn x ?_)
      rcases hI with ⟨rfl, h⟩ | ⟨b, hb, rfl, g1, g2, g3⟩
      · exact Or.inl ⟨rfl, lt_s h (Or.inl z)⟩
      · exact Or.inr ⟨b, by omega, rfl, g1, g2, lt_s g3 (fun w => absurd z w)⟩
theorem nr_x_84 {post : SX → Prop} {J : Int32 → (Nat → Int32) → (Nat → Int32) → (Nat → Int32) → (Nat → Int32) → (Nat → Int32) → (Nat → Int32) → (Nat → Int32) → (Nat → Int32) → (Nat → Int32) → (Nat → Int32) → (Nat → Int32) → (Nat → Int32) → Prop} {x1 x2 x3 : Int32} {R : Nat → Nat} {x v : Nat} (hR : nr_RA a_reach R) (hx : x < 6) (hv : v < 2097152)
    (h0 : x3 = 0 → J (nI (x + 1)) a_certOwner a_certName a_certPrincipal a_certPath a_grantOwner a_grantPrincipal a_grantPath a_costs a_settled a_reach a_trust a_before) (h1 : ¬ x3 = 0 → ∀ re, nr_RA re (nr_of R x v) → J (nI (x + 1)) a_certOwner a_certName a_certPrincipal a_certPath a_grantOwner a_grantPrincipal a_grantPath a_costs a_settled re a_trust a_before) : wX_passGrant_84 post J x1 x2 x3 (nI x) (nI v) f_principals f_certSet f_grantSet f_openSet f_solved a_certOwner a_certName a_certPrincipal a_certPath a_grantOwner a_grantPrincipal a_grantPath a_costs a_settled a_reach a_trust a_before := by
  have hin := vp_in_nI (N := 6) hx (by omega)
  have hcl : (nI x).toNatClampNeg = x := nI_clamp (by omega)
  obtain ⟨hc, hm⟩ := hR x hx
  have he := nr_e_b (R x)
  unfold wX_passGrant_84
  refine pk_lt 999 v (fun z => nm_r (nI_1 x) ?_) (fun z => br_c (fun w => nm_r (nI_1 x) (h0 w)) (fun w => ⟨hin, ?_⟩))
  · by_cases w : x3 = 0
    · exact h0 w
    · exact h1 w _ (by rw [nr_of_no (by omega)]; exact hR)
  · rw [hcl, hc]
    refine pk_le (nr_e (R x)) v (fun u => nm_r (nI_1 x) (h1 w _ ?_)) (fun u => ⟨hin, nm_e (nm_r (nI_1 x) (h1 w _ ?_))⟩)
    · have : R x ≤ v := by
        unfold nr_e at u
        split at u <;> omega
      rw [nr_of_no this]; exact hR
    · have : v < R x := by
        unfold nr_e at u
        split at u <;> omega
      rw [nr_of_yes this]; exact nr_RA_up hR (by omega)
theorem nr_x_pg20 {post : SX → Prop} {F R0 R1 Q0 Q1 : Nat → Nat} {SR SQ : Nat → Nat → Prop} {n g μ : Nat} {x3 : Int32} {G O : Nat → Prop} {U V B : Nat → Nat} (hgX : nr_gX n G O U V B f_grantSet f_openSet a_grantOwner a_grantPrincipal a_grantPath) (hn6 : n ≤ 6) (hC : nr_CA a_costs F) (h6 : g < 6) (hμ : μ < 1000) (hz : ¬ x3 = 0 ↔ O g)
    (hRA : nr_RA a_reach R1) (hQA : nr_RA a_trust Q1) (hOR : nr_OF R0 R1 SR) (hOQ : nr_OF Q0 Q1 SQ)
    (h : ∀ re tr R' Q', nr_RA re R' → nr_RA tr Q' → nr_OF R0 R' (fun i v => SR i v ∨ (O g ∧ i < 6 ∧ v = μ + 1 + nr_cg F V B g i)) → nr_OF Q0 Q' (fun i v => SQ i v ∨ (i < 6 ∧ v = μ + 1 + nr_cg F V B g i)) → post (f_principals, f_certSet, f_grantSet, f_openSet, f_solved, a_certOwner, a_certName, a_certPrincipal, a_certPath, a_grantOwner, a_grantPrincipal, a_grantPath, a_costs, a_settled, re, tr, a_before)) :
    ∃ l, wX_passGrant_20 post (nI g) (nI μ) x3 f_principals f_certSet f_grantSet f_openSet f_solved l 0 a_certOwner a_certName a_certPrincipal a_certPath a_grantOwner a_grantPrincipal a_grantPath a_costs a_settled a_reach a_trust a_before := by
  have hin : vp_in (nI g) 6 := vp_in_nI h6 (by omega)
  have hcl : (nI g).toNatClampNeg = g := nI_clamp (by omega)
  have hb := hgX.1 g h6
  obtain ⟨e1, e2, e3⟩ := hgX.2.2.2 g h6
  refine loop_0 (fun l i (w : (Nat → Int32) × (Nat → Int32) × (Nat → Nat) × (Nat → Nat)) => wX_passGrant_20 post (nI g) (nI μ) x3 f_principals f_certSet f_grantSet f_openSet f_solved l (nI i) a_certOwner a_certName a_certPrincipal a_certPath a_grantOwner a_grantPrincipal a_grantPath a_costs a_settled w.1 w.2.1 a_before)
    (fun j w => nr_RA w.1 w.2.2.1 ∧ nr_RA w.2.1 w.2.2.2 ∧ nr_OF R0 w.2.2.1 (fun i v => SR i v ∨ (O g ∧ i < j ∧ v = μ + 1 + nr_cg F V B g i)) ∧ nr_OF Q0 w.2.2.2 (fun i v => SQ i v ∨ (i < j ∧ v = μ + 1 + nr_cg F V B g i))) 6 (a_reach, a_trust, R1, Q1)
    ⟨hRA, hQA, nr_OF_iff hOR (fun i v => ⟨fun z => z.elim (fun z => z) (fun z => absurd z.2.1 (by omega)), Or.inl⟩), nr_OF_iff hOQ (fun i v => ⟨fun z => z.elim (fun z => z) (fun z => absurd z.1 (by omega)), Or.inl⟩)⟩ ?_ ?_
  · intro l w hI
    exact br_t (nI_le (Nat.le_refl 6) (by omega)) (h w.1 w.2.1 w.2.2.1 w.2.2.2 hI.1 hI.2.1 hI.2.2.1 hI.2.2.2)
  · intro l x w hx hI hn
    obtain ⟨re, tr, R, Q⟩ := w
    dsimp only at hI ⊢
    obtain ⟨i1, i2, i3, i4⟩ := hI
    have hxin := vp_in_nI (N := 6) hx (by omega)
    have hxcl : (nI x).toNatClampNeg = x := nI_clamp (by omega)
    obtain ⟨q1, q2⟩ := i2 x hx
    obtain ⟨r1, r2⟩ := i1 x hx
    have hq := nr_e_b (Q x)
    have hsb := nr_e_b (nr_sh F (V g) (B g) x)
    have fin : ∀ tr', nr_RA tr' (nr_of Q x (μ + 1 + nr_e (nr_sh F (V g) (B g) x))) → wX_passGrant_84 post (wX_passGrant_20 post (nI g) (nI μ) x3 f_principals f_certSet f_grantSet f_openSet f_solved l) (nI g) (nI μ) x3 (nI x) (nI (μ + 1 + nr_e (nr_sh F (V g) (B g) x))) f_principals f_certSet f_grantSet f_openSet f_solved a_certOwner a_certName a_certPrincipal a_certPath a_grantOwner a_grantPrincipal a_grantPath a_costs a_settled re tr' a_before := by
      intro tr' htr
      rw [nr_of_e q2] at htr
      have hOQ' : nr_OF Q0 (nr_of Q x (μ + 1 + nr_sh F (V g) (B g) x)) (fun i v => SQ i v ∨ (i < x + 1 ∧ v = μ + 1 + nr_cg F V B g i)) := by
        refine nr_OF_of i4 (fun i v => ⟨fun z => ?_, fun z => ?_⟩)
        · rcases z with z | ⟨z1, z2⟩
          · exact Or.inl (Or.inl z)
          · by_cases e : i = x
            · rw [e] at z2; exact Or.inr ⟨e, z2⟩
            · exact Or.inl (Or.inr ⟨by omega, z2⟩)
        · rcases z with (z | ⟨z1, z2⟩) | ⟨z1, z2⟩
          · exact Or.inl z
          · exact Or.inr ⟨by omega, z2⟩
          · rw [z1]; exact Or.inr ⟨by omega, z2⟩
      refine nr_x_84 i1 hx (by omega) (fun z => ?_) (fun z re' hre => ?_)
      · refine hn (re, tr', R, _) ⟨i1, htr, nr_OF_iff i3 (fun i v => ⟨fun w => ?_, fun w => ?_⟩), hOQ'⟩
        · rcases w with w | w
          · exact Or.inl w
          · exact absurd z (hz.mpr w.1)
        · rcases w with w | w
          · exact Or.inl w
          · exact absurd z (hz.mpr w.1)
      · rw [nr_of_e r2] at hre
        refine hn (re', tr', _, _) ⟨hre, htr, nr_OF_of i3 (fun i v => ⟨fun w => ?_, fun w => ?_⟩), hOQ'⟩
        · rcases w with w | ⟨w1, w2, w3⟩
          · exact Or.inl (Or.inl w)
          · by_cases e : i = x
            · rw [e] at w3; exact Or.inr ⟨e, w3⟩
            · exact Or.inl (Or.inr ⟨w1, by omega, w3⟩)
        · rcases w with (w | ⟨w1, w2, w3⟩) | ⟨w1, w2⟩
          · exact Or.inl w
          · exact Or.inr ⟨w1, by omega, w3⟩
          · rw [w1]; exact Or.inr ⟨hz.mp z, by omega, w2⟩
    refine br_f (nI_ge (b := 6) hx (by omega)) ⟨hin, hin, ?_⟩
    rw [hcl, e2, e3]
    refine nr_x_den hC (by omega) (by omega) hx ?_
    refine nm_r (e' := nI (μ + 1 + nr_e (nr_sh F (V g) (B g) x))) (by rw [nI_1, nI_add]) ?_
    refine pk_lt 999 (μ + 1 + nr_e (nr_sh F (V g) (B g) x)) (fun z => fin _ ?_) (fun z => ⟨hxin, ?_⟩)
    · rw [nr_of_no (by omega)]; exact i2
    · rw [hxcl, q1]
      refine pk_le (nr_e (Q x)) (μ + 1 + nr_e (nr_sh F (V g) (B g) x)) (fun u => fin _ ?_) (fun u => ⟨hxin, nm_e (fin _ ?_)⟩)
      · have : Q x ≤ μ + 1 + nr_e (nr_sh F (V g) (B g) x) := by
          by_cases zz : Q x < 1000
          · rw [nr_e_lt zz] at u; exact u
          · rw [nr_e_ge (by omega)] at u; omega
        rw [nr_of_no this]; exact i2
      · have : μ + 1 + nr_e (nr_sh F (V g) (B g) x) < Q x := by
          by_cases zz : Q x < 1000
          · rw [nr_e_lt zz] at u; exact u
          · omega
        rw [nr_of_yes this]; exact nr_RA_up i2 (by omega)
theorem nr_x_pg {post : SX → Prop} {F R0 R1 Q0 Q1 : Nat → Nat} {SR SQ : Nat → Nat → Prop} {n g μ : Nat} {G O : Nat → Prop} {U V B : Nat → Nat} (hgX : nr_gX n G O U V B f_grantSet f_openSet a_grantOwner a_grantPrincipal a_grantPath) (hn6 : n ≤ 6) (hC : nr_CA a_costs F) (h6 : g < 6) (hG : G g) (hμ : μ < 1000)
    (hRA : nr_RA a_reach R1) (hQA : nr_RA a_trust Q1) (hOR : nr_OF R0 R1 SR) (hOQ : nr_OF Q0 Q1 SQ)
    (h : ∀ re tr R' Q', nr_RA re R' → nr_RA tr Q' → nr_OF R0 R' (fun i v => SR i v ∨ (O g ∧ i < 6 ∧ v = μ + 1 + nr_cg F V B g i)) → nr_OF Q0 Q' (fun i v => SQ i v ∨ (i < 6 ∧ v = μ + 1 + nr_cg F V B g i)) → post (f_principals, f_certSet, f_grantSet, f_openSet, f_solved, a_certOwner, a_certName, a_certPrincipal, a_certPath, a_grantOwner, a_grantPrincipal, a_grantPath, a_costs, a_settled, re, tr, a_before)) :
    wpX_passGrant post (f_principals, f_certSet, f_grantSet, f_openSet, f_solved, a_certOwner, a_certName, a_certPrincipal, a_certPath, a_grantOwner, a_grantPrincipal, a_grantPath, a_costs, a_settled, a_reach, a_trust, a_before) (nI g) (nI μ) := by
  have hO := hgX.2.2.1 g h6 hG
  refine br_c (fun z => ?_) (fun z => ?_)
  · rw [nr_bit _ (by omega), hO] at z
    exact nr_x_pg20 hgX hn6 hC h6 hμ ⟨fun w => absurd rfl w, fun w => absurd w z⟩ hRA hQA hOR hOQ h
  · rw [nr_bit _ (by omega), hO] at z
    exact nr_x_pg20 hgX hn6 hC h6 hμ ⟨fun _ => Classical.not_not.mp z, fun _ => nr_10⟩ hRA hQA hOR hOQ h
theorem nr_x_f74 {post : SX → Prop} {J : Int32 → Int32 → Int32 → Int32 → Int32 → Int32 → Int32 → (Nat → Int32) → (Nat → Int32) → (Nat → Int32) → (Nat → Int32) → (Nat → Int32) → (Nat → Int32) → (Nat → Int32) → (Nat → Int32) → (Nat → Int32) → (Nat → Int32) → (Nat → Int32) → (Nat → Int32) → Prop} {F R Q : Nat → Nat} {n j y : Nat} {dn : Int32} {G O : Nat → Prop} {U V B : Nat → Nat} (hgX : nr_gX n G O U V B f_grantSet f_openSet a_grantOwner a_grantPrincipal a_grantPath) (hn6 : n ≤ 6) (hC : nr_CA a_costs F) (hy : y < 6) (hμ : R y < 1000) (hRA : nr_RA a_reach R) (hQA : nr_RA a_trust Q)
    (h : ∀ re tr R' Q', nr_RA re R' → nr_RA tr Q' → nr_OF R R' (nr_SR G O U (nr_cg F V B) y (R y) 6) → nr_OF Q Q' (nr_SQ G U (nr_cg F V B) y (R y) 6) → J dn (nI (j + 1)) f_principals f_certSet f_grantSet f_openSet f_solved a_certOwner a_certName a_certPrincipal a_certPath a_grantOwner a_grantPrincipal a_grantPath a_costs a_settled re tr a_before) :
    ∃ l, wX_followGrants_74 post J dn (nI j) (nI y) l 0 f_principals f_certSet f_grantSet f_openSet f_solved a_certOwner a_certName a_certPrincipal a_certPath a_grantOwner a_grantPrincipal a_grantPath a_costs a_settled a_reach a_trust a_before := by
  refine loop_0 (fun l i (w : (Nat → Int32) × (Nat → Int32) × (Nat → Nat) × (Nat → Nat)) => wX_followGrants_74 post J dn (nI j) (nI y) l (nI i) f_principals f_certSet f_grantSet f_openSet f_solved a_certOwner a_certName a_certPrincipal a_certPath a_grantOwner a_grantPrincipal a_grantPath a_costs a_settled w.1 w.2.1 a_before)
    (fun g w => nr_RA w.1 w.2.2.1 ∧ nr_RA w.2.1 w.2.2.2 ∧ nr_OF R w.2.2.1 (nr_SR G O U (nr_cg F V B) y (R y) g) ∧ nr_OF Q w.2.2.2 (nr_SQ G U (nr_cg F V B) y (R y) g)) 6 (a_reach, a_trust, R, Q)
    ⟨hRA, hQA, nr_OF_0 R (fun i v ⟨g, hg, _⟩ => absurd hg (by omega)), nr_OF_0 Q (fun i v ⟨g, hg, _⟩ => absurd hg (by omega))⟩ ?_ ?_
  · intro l w hI
    exact br_t (nI_le (Nat.le_refl 6) (by omega)) (nm_r (nI_1 j) (h w.1 w.2.1 w.2.2.1 w.2.2.2 hI.1 hI.2.1 hI.2.2.1 hI.2.2.2))
  · intro l g w h6 hI hn
    obtain ⟨re, tr, R', Q'⟩ := w
    dsimp only at hI ⊢
    obtain ⟨i1, i2, i3, i4⟩ := hI
    have hin : vp_in (nI g) 6 := vp_in_nI h6 (by omega)
    have hcl : (nI g).toNatClampNeg = g := nI_clamp (by omega)
    have hyin : vp_in (nI y) 6 := vp_in_nI hy (by omega)
    have hycl : (nI y).toNatClampNeg = y := nI_clamp (by omega)
    have hb := hgX.1 g h6
    obtain ⟨e1, e2, e3⟩ := hgX.2.2.2 g h6
    have skip : ¬ (G g ∧ U g = y) → ∀ q, q = nI g + 1 → wX_followGrants_74 post J dn (nI j) (nI y) l q f_principals f_certSet f_grantSet f_openSet f_solved a_certOwner a_certName a_certPrincipal a_certPath a_grantOwner a_grantPrincipal a_grantPath a_costs a_settled re tr a_before := by
      intro hno
      refine nm_r (nI_1 g) (hn (re, tr, R', Q') ⟨i1, i2, nr_OF_iff i3 (fun i v => ⟨fun ⟨g', z1, z2, z3, z4, z5⟩ => ⟨g', ?_, z2, z3, z4, z5⟩, fun ⟨g', z1, z2⟩ => ⟨g', by omega, z2⟩⟩), nr_OF_iff i4 (fun i v => ⟨fun ⟨g', z1, z2, z4, z5⟩ => ⟨g', ?_, z2, z4, z5⟩, fun ⟨g', z1, z2⟩ => ⟨g', by omega, z2⟩⟩)⟩)
      · by_cases e : g' = g
        · rw [e] at z2 z4; exact absurd ⟨z2, z4⟩ hno
        · omega
      · by_cases e : g' = g
        · rw [e] at z2 z4; exact absurd ⟨z2, z4⟩ hno
        · omega
    refine br_f (nI_ge (b := 6) h6 (by omega)) ?_
    rw [hcl, e1]
    refine br_c (fun z => ?_) (fun z => ⟨hin, ?_⟩)
    · rw [nr_bit _ (by omega), hgX.2.1 g h6] at z
      exact skip (fun w => z w.1)
    rw [nr_bit _ (by omega), hgX.2.1 g h6] at z
    have hG := Classical.not_not.mp z
    refine pk_eq (U g) y (fun e => ⟨hyin, ?_⟩) (fun e => skip (fun w => e w.2))
    have hk : R' y = R y := nr_OF_keep i3 (μ := R y) (fun i v ⟨_, _, _, _, _, _, w⟩ => by omega) (Nat.le_refl _)
    rw [hycl, (i1 y hy).1, hk, nr_e_lt hμ]
    refine nr_x_pg hgX hn6 hC h6 hG hμ i1 i2 i3 i4 (fun re2 tr2 R2 Q2 j1 j2 j3 j4 => ?_)
    refine nm_r (nI_1 g) (hn (re2, tr2, R2, Q2) ⟨j1, j2, nr_OF_iff j3 (fun i v => ⟨fun ⟨g', z1, z2, z3, z4, z5, z6⟩ => ?_, fun w => ?_⟩), nr_OF_iff j4 (fun i v => ⟨fun ⟨g', z1, z2, z4, z5, z6⟩ => ?_, fun w => ?_⟩)⟩)
    · by_cases e2 : g' = g
      · rw [e2] at z3 z6; exact Or.inr ⟨z3, z5, z6⟩
      · exact Or.inl ⟨g', by omega, z2, z3, z4, z5, z6⟩
    · rcases w with ⟨g', z1, z2⟩ | ⟨w1, w2, w3⟩
      · exact ⟨g', by omega, z2⟩
      · exact ⟨g, by omega, hG, w1, e, w2, w3⟩
    · by_cases e2 : g' = g
      · rw [e2] at z6; exact Or.inr ⟨z5, z6⟩
      · exact Or.inl ⟨g', by omega, z2, z4, z5, z6⟩
    · rcases w with ⟨g', z1, z2⟩ | ⟨w2, w3⟩
      · exact ⟨g', by omega, z2⟩
      · exact ⟨g, by omega, hG, e, w2, w3⟩
theorem nr_x_f45 {post : SX → Prop} {F R Q RG : Nat → Nat} {n k : Nat} {G O : Nat → Prop} {U V B : Nat → Nat} (hgX : nr_gX n G O U V B f_grantSet f_openSet a_grantOwner a_grantPrincipal a_grantPath) (hn6 : n ≤ 6) (hk : k < 6) (hC : nr_CA a_costs F) (hcg : ∀ g x, g < 6 → x < 6 → n ≤ x → nr_cg F V B g x = 1000) (hFG : nr_FG n G O U (nr_cg F V B) k RG)
    (hRA : nr_RA a_reach R) (hQA : nr_RA a_trust Q) (hD : nr_DIN 6 (nr_gE n G O) (nr_gt k) (nr_gv U (nr_cg F V B)) R (bt 0)) (hTI : nr_TI G U (nr_cg F V B) R Q (bt 0))
    (h : ∀ re tr Q', nr_RA tr Q' → (∀ x, x < 6 → nr_TR G U (nr_cg F V B) RG (Q' x) x) → post (f_principals, f_certSet, f_grantSet, f_openSet, f_solved, a_certOwner, a_certName, a_certPrincipal, a_certPath, a_grantOwner, a_grantPrincipal, a_grantPath, a_costs, a_settled, re, tr, a_before)) : ∃ l, wX_followGrants_45 post l 0 0 f_principals f_certSet f_grantSet f_openSet f_solved a_certOwner a_certName a_certPrincipal a_certPath a_grantOwner a_grantPrincipal a_grantPath a_costs a_settled a_reach a_trust a_before := by
  have hU : ∀ g, g < 6 → U g < 6 := fun g hg => by have := hgX.1 g hg; omega
  refine loop_0 (fun l i (w : Int32 × (Nat → Int32) × (Nat → Int32) × (Nat → Nat) × (Nat → Nat)) => wX_followGrants_45 post l w.1 (nI i) f_principals f_certSet f_grantSet f_openSet f_solved a_certOwner a_certName a_certPrincipal a_certPath a_grantOwner a_grantPrincipal a_grantPath a_costs a_settled w.2.1 w.2.2.1 a_before)
    (fun j w => nr_RA w.2.1 w.2.2.2.1 ∧ nr_RA w.2.2.1 w.2.2.2.2 ∧ nr_DIN 6 (nr_gE n G O) (nr_gt k) (nr_gv U (nr_cg F V B)) w.2.2.2.1 (bt w.1) ∧ nr_TI G U (nr_cg F V B) w.2.2.2.1 w.2.2.2.2 (bt w.1) ∧ j ≤ nr_cnt (bt w.1) 6) 6 (0, a_reach, a_trust, R, Q)
    ⟨hRA, hQA, hD, hTI, Nat.zero_le _⟩ ?_ ?_
  · intro l w hI
    obtain ⟨dn, re, tr, R, Q⟩ := w
    dsimp only at hI ⊢
    obtain ⟨i1, i2, i3, i4, i5⟩ := hI
    exact br_t (nI_le (Nat.le_refl 6) (by omega)) (h re tr Q i2 (nr_TI_end hU hFG i3 i4 (fun i hi => Or.inl (nr_cnt_all i5 i hi))))
  · intro l j w hj hI hn
    obtain ⟨dn, re, tr, R, Q⟩ := w
    dsimp only at hI ⊢
    obtain ⟨i1, i2, i3, i4, i5⟩ := hI
    refine br_f (nI_ge (b := 6) hj (by omega)) ?_
    refine nr_x_nearest i1 (fun ha => ?_) (fun y hy g1 g2 g3 => ?_)
    · exact br_f (by decide) (h re tr Q i2 (nr_TI_end hU hFG i3 i4 ha))
    · refine br_t (nI_pos' (by omega)) (nm_e ?_)
      refine nr_x_f74 hgX hn6 hC hy g2 i1 i2 (fun re2 tr2 R2 Q2 j1 j2 j3 j4 => ?_)
      have hs : ∀ i, i < 6 → (bt (dn ||| ((1 : Int32) <<< (nI y &&& 31))) i = true ↔ bt dn i = true ∨ i = y) := fun i hi => nr_bset dn (by omega) (by omega)
      obtain ⟨d1, d2⟩ := nr_round hn6 hU hcg i3 i4 hy g1 g2 g3 hs j3 j4
      refine hn (_, re2, tr2, R2, Q2) ⟨j1, j2, d1, d2, ?_⟩
      have := nr_cnt_lt (p := bt dn) (q := bt (dn ||| ((1 : Int32) <<< (nI y &&& 31)))) hy (fun i hi z => (hs i hi).mpr (Or.inl z)) g1 ((hs y hy).mpr (Or.inr rfl))
      exact Nat.lt_of_le_of_lt i5 this
theorem nr_x_follow {post : SX → Prop} {F RG : Nat → Nat} {k : Nat} {n : Nat} {T : Nat → Prop} {W D P A : Nat → Nat} (hX : nr_cX n T W D P A f_certSet a_certOwner a_certName a_certPrincipal a_certPath) {G O : Nat → Prop} {U V B : Nat → Nat} (hgX : nr_gX n G O U V B f_grantSet f_openSet a_grantOwner a_grantPrincipal a_grantPath) (hF : nr_FN n T W D P A F) (hs : ¬ f_solved = 0 → nr_CA a_costs F) (hk : k < n) (hFG : nr_FG n G O U (nr_cg F V B) k RG)
    (h : ∀ g co st re tr Q', ¬ g = 0 → nr_CA co F → nr_RA tr Q' → (∀ x, x < 6 → nr_TR G U (nr_cg F V B) RG (Q' x) x) → post (f_principals, f_certSet, f_grantSet, f_openSet, g, a_certOwner, a_certName, a_certPrincipal, a_certPath, a_grantOwner, a_grantPrincipal, a_grantPath, co, st, re, tr, a_before)) : wpX_followGrants post (f_principals, f_certSet, f_grantSet, f_openSet, f_solved, a_certOwner, a_certName, a_certPrincipal, a_certPath, a_grantOwner, a_grantPrincipal, a_grantPath, a_costs, a_settled, a_reach, a_trust, a_before) (nI k) := by
  have hn6 := hX.1.2.1
  have hU : ∀ g, g < 6 → U g < 6 := fun g hg => by have := hgX.1 g hg; omega
  have hcg : ∀ g x, g < 6 → x < 6 → n ≤ x → nr_cg F V B g x = 1000 := fun g x hg hx hnx => nr_sh_hi hX.1 hF (hgX.1 g hg).2.1 (hgX.1 g hg).2.2 hx hnx
  have hkin : vp_in (nI k) 6 := vp_in_nI (by omega) (by omega)
  have hkcl : (nI k).toNatClampNeg = k := nI_clamp (by omega)
  unfold wpX_followGrants
  dsimp only
  refine nr_x_solve hX hF hs (fun g co st hg hca => ?_)
  refine loop_0 (fun l i (w : (Nat → Int32) × (Nat → Int32)) => wX_followGrants_6 post (nI k) f_principals f_certSet f_grantSet f_openSet g l (nI i) a_certOwner a_certName a_certPrincipal a_certPath a_grantOwner a_grantPrincipal a_grantPath co st w.1 w.2 a_before) (fun j w => ∀ i, i < j → w.1 i = 1048576 ∧ w.2 i = 1048576) 6 (a_reach, a_trust) (fun i hi => absurd hi (by omega)) ?_ ?_
  · intro l w hI
    refine br_t (nI_le (Nat.le_refl 6) (by omega)) ⟨hkin, nm_r (e' := upd w.1 k (nI 0)) (by rw [hkcl]; rfl) ?_⟩
    have r1 : nr_RA w.1 (fun _ => 1000) := fun i hi => ⟨(hI i hi).1, Nat.le_refl _⟩
    have q1 : nr_RA w.2 (fun _ => 1000) := fun i hi => ⟨(hI i hi).2, Nat.le_refl _⟩
    refine nr_x_f45 (R := nr_up (fun _ => 1000) k 0) (Q := fun _ => 1000) hgX hn6 (by omega) hca hcg hFG (nr_RA_up r1 (by omega)) q1 (nr_G0 hn6 (by omega) hU (fun i _ => by rw [b_0]; exact Bool.false_ne_true) nr_up_s (fun i _ e => nr_up_n e)) (fun x hx => ⟨Nat.le_refl _, fun g _ _ z => ?_, fun z => absurd z (Nat.lt_irrefl 1000)⟩) (fun re tr Q' h1 h2 => h g co st re tr Q' hg hca h1 h2)
    rw [b_0] at z; exact absurd z Bool.false_ne_true
  · intro l i w hi hI hn
    have hin : vp_in (nI i) 6 := vp_in_nI hi (by omega)
    have hcl : (nI i).toNatClampNeg = i := nI_clamp (by omega)
    refine br_f (nI_ge (b := 6) hi (by omega)) ⟨hin, nm_r (e' := upd w.1 i 1048576) (by rw [hcl]) ⟨hin, nm_r (e' := upd w.2 i 1048576) (by rw [hcl]) (nm_r (nI_1 i) (hn (upd w.1 i 1048576, upd w.2 i 1048576) (lt_s (fun j hj => ?_) ⟨pk_us, pk_us⟩)))⟩⟩
    show upd w.1 i 1048576 j = _ ∧ upd w.2 i 1048576 j = _
    rw [pk_un (by omega), pk_un (by omega)]; exact hI j hj
end
end
section
def nr_NA (a : Nat → Int32) (m : Nat → Nat) : Prop := ∀ i, i < 6 → a i = nI (m i) ∧ m i ≤ 1000
theorem nr_NA_up {a : Nat → Int32} {m : Nat → Nat} {c v : Nat} (h : nr_NA a m) (hv : v ≤ 1000) : nr_NA (upd a c (nI v)) (nr_up m c v) := by
  intro i hi
  by_cases e : i = c
  · rw [e, pk_us, nr_up_s]; exact ⟨rfl, hv⟩
  · rw [pk_un e, nr_up_n e]; exact h i hi
theorem nr_NA_same {a : Nat → Int32} {m : Nat → Nat} {c : Nat} (h : nr_NA a m) : nr_NA (upd a c (a c)) m := by
  intro i hi
  by_cases e : i = c
  · rw [e, pk_us, ← e]; exact h i hi
  · rw [pk_un e]; exact h i hi
section
variable {f_n : Int32} {a_there a_who a_name a_subject a_path a_given a_giver a_target a_targetPath a_open a_member a_near : Nat → Int32}
theorem nr_y_s46 {post : SY → Prop} {J : Int32 → (Nat → Int32) → (Nat → Int32) → (Nat → Int32) → (Nat → Int32) → (Nat → Int32) → (Nat → Int32) → (Nat → Int32) → (Nat → Int32) → (Nat → Int32) → (Nat → Int32) → (Nat → Int32) → (Nat → Int32) → Prop} {F RG m : Nat → Nat} {k p : Nat} {n : Nat} {T : Nat → Prop} {W D P A : Nat → Nat} (hY : nr_cY n T W D P A f_n a_there a_who a_name a_subject a_path) {G O : Nat → Prop} {U V B : Nat → Nat} (hgY : nr_gY n G O U V B a_given a_open a_giver a_target a_targetPath) (hF : nr_FN n T W D P A F) (hme : nr_YA a_member F) (hk : k < 6) (hp6 : p < 6) (hFG : nr_FG n G O U (nr_cg F V B) k RG) (hP : nr_PB 6 RG p m) (hN : nr_NA a_near m) (hmk : m k = 0)
    (h : ∀ ne m', nr_NA ne m' → nr_PB 6 RG (p + 1) m' → m' k = 0 → J (nI (p + 1)) a_there a_who a_name a_subject a_path a_given a_giver a_target a_targetPath a_open a_member ne) : ∃ l, wY_spread_46 post J (nI p) f_n l 0 a_there a_who a_name a_subject a_path a_given a_giver a_target a_targetPath a_open a_member a_near := by
  have hc := hY.1
  have hn6 := hc.2.1
  have hfn := hY.2.1
  have hU : ∀ g, g < 6 → U g < 6 := fun g hg => by have := hgY.1 g hg; omega
  refine loop_0 (fun l i (w : (Nat → Int32) × (Nat → Nat)) => wY_spread_46 post J (nI p) f_n l (nI i) a_there a_who a_name a_subject a_path a_given a_giver a_target a_targetPath a_open a_member w.1)
    (fun j w => nr_NA w.1 w.2 ∧ nr_PB 6 RG p w.2 ∧ w.2 k = 0 ∧ ∀ c, c < j → nr_gE n G O (some (c / 6, c % 6)) → nr_PP 6 (nr_gt k) (nr_gv U (nr_cg F V B)) RG p w.2 (some (c / 6, c % 6))) 36 (a_near, m)
    ⟨hN, hP, hmk, fun c hc => absurd hc (by omega)⟩ ?_ ?_
  · intro l w hI
    obtain ⟨ne, m'⟩ := w
    dsimp only at hI ⊢
    obtain ⟨i1, i2, i3, i4⟩ := hI
    refine br_t (nI_le (Nat.le_refl 36) (by omega)) (nm_r (nI_1 p) (h ne m' i1 (nr_pass hFG i2 (fun r hr => ?_)) i3))
    cases r with
    | none => exact fun _ _ _ => by show m' k ≤ RG k; omega
    | some r =>
      obtain ⟨g, x⟩ := r
      have r1 : g < 6 := hr.1
      have r4 : x < n := hr.2.2.2
      have q1 : (g * 6 + x) / 6 = g := by omega
      have q2 : (g * 6 + x) % 6 = x := by omega
      have q3 := i4 (g * 6 + x) (by omega)
      rw [q1, q2] at q3
      exact q3 hr
  · intro l c w hc36 hI hn
    obtain ⟨ne, m'⟩ := w
    dsimp only at hI ⊢
    obtain ⟨i1, i2, i3, i4⟩ := hI
    have hg6 : c / 6 < 6 := by omega
    have hx6 : c % 6 < 6 := by omega
    have hgin : vp_in (nI (c / 6)) 6 := vp_in_nI hg6 (by omega)
    have hgcl : (nI (c / 6)).toNatClampNeg = c / 6 := nI_clamp (by omega)
    have hxin : vp_in (nI (c % 6)) 6 := vp_in_nI hx6 (by omega)
    have hxcl : (nI (c % 6)).toNatClampNeg = c % 6 := nI_clamp (by omega)
    have hb := hgY.1 (c / 6) hg6
    obtain ⟨e1, e2, e3⟩ := hgY.2.2.2 (c / 6) hg6
    have hUin : vp_in (nI (U (c / 6))) 6 := vp_in_nI (hU _ hg6) (by omega)
    have hUcl : (nI (U (c / 6))).toNatClampNeg = U (c / 6) := nI_clamp (by have := hU _ hg6; omega)
    have skip : ¬ nr_gE n G O (some (c / 6, c % 6)) → ∀ q, q = nI c + 1 → wY_spread_46 post J (nI p) f_n l q a_there a_who a_name a_subject a_path a_given a_giver a_target a_targetPath a_open a_member ne := fun hno => nm_r (nI_1 c) (hn (ne, m') ⟨i1, i2, i3, lt_s i4 (fun w => absurd w hno)⟩)
    refine br_f (nI_ge (b := 36) hc36 (by omega)) ⟨by decide, nm_r (e' := nI (c / 6)) (pk_div (d := 6) (by omega) (by omega) (by omega)) ⟨by decide, nm_r (e' := nI (c % 6)) (pk_rem (d := 6) (by omega) (by omega) (by omega)) ?_⟩⟩
    refine pk_le n (c % 6) (fun z => skip (fun w => absurd w.2.2.2 (by show ¬ c % 6 < n; omega))) (fun hxn => ⟨hgin, ?_⟩) hfn
    rw [hgcl]
    refine br_c (fun z => skip (fun w => (hgY.2.1 _ hg6).mp z w.2.1)) (fun z => ⟨hgin, ?_⟩)
    have hG : G (c / 6) := Classical.not_not.mp (fun w => z ((hgY.2.1 _ hg6).mpr w))
    have hOi := hgY.2.2.1 _ hg6 hG
    refine br_c (fun z => skip (fun w => hOi.mp z w.2.2.1)) (fun z => ⟨hgin, ?_⟩)
    have hO : O (c / 6) := Classical.not_not.mp (fun w => z (hOi.mpr w))
    have hr : nr_gE n G O (some (c / 6, c % 6)) := ⟨hg6, hG, hO, hxn⟩
    have lw := nr_low (nr_MG hU) (nr_SG hU) hFG i2 hr
    obtain ⟨n1, n2⟩ := i1 _ (hU _ hg6)
    obtain ⟨x1, x2⟩ := i1 _ hx6
    have hsh := nr_sh_le (m := F) (p := V (c / 6)) (a := B (c / 6)) (x := c % 6) (by omega) (by omega) hx6 hF.1
    have hv : nr_gv U (nr_cg F V B) (some (c / 6, c % 6)) m' = m' (U (c / 6)) + 1 + nr_sh F (V (c / 6)) (B (c / 6)) (c % 6) := rfl
    rw [e1, e2, e3, hUcl, n1]
    refine ⟨hUin, hgin, hgin, ?_⟩
    refine nr_y_shown hfn hn6 hme (by omega) (by omega) hx6 (fun i hi h6 => nr_FN_hi hc hF hi h6) ?_
    refine nm_r (e' := nI (nr_gv U (nr_cg F V B) (some (c / 6, c % 6)) m')) (by rw [nI_1, nI_add]; rfl) ⟨hxin, ?_⟩
    rw [hxcl, x1]
    refine pk_le (m' (c % 6)) (nr_gv U (nr_cg F V B) (some (c / 6, c % 6)) m') (fun hl => ⟨hxin, hxin, nm_e (nm_r (nI_1 c) ?_)⟩) (fun hl => ⟨hxin, nm_e (nm_r (nI_1 c) ?_)⟩)
    · rw [← x1]
      exact hn (_, m') ⟨nr_NA_same i1, i2, i3, lt_s i4 (fun _ q1 q2 q3 => Nat.le_trans hl (lw.2 q1 q2 q3))⟩
    · have le := nr_up_le (m := m') (c := c % 6) (v := nr_gv U (nr_cg F V B) (some (c / 6, c % 6)) m') (by omega)
      refine hn (_, nr_up m' (c % 6) (nr_gv U (nr_cg F V B) (some (c / 6, c % 6)) m')) ⟨nr_NA_up i1 (by omega), nr_PB_up (nr_MG hU) (nr_SG hU) hFG i2 hr (Nat.le_of_lt hl), ?_, lt_s (fun c' hc' w => nr_PP_le (i4 c' hc' w) (le _)) (fun _ q1 q2 q3 => ?_)⟩
      · have := le k
        show nr_up m' (c % 6) _ k = 0
        omega
      · show nr_up m' (c % 6) (nr_gv U (nr_cg F V B) (some (c / 6, c % 6)) m') (c % 6) ≤ _
        rw [nr_up_s]; exact lw.2 q1 q2 q3
theorem nr_y_spread {post : SY → Prop} {F RG : Nat → Nat} {k : Nat} {n : Nat} {T : Nat → Prop} {W D P A : Nat → Nat} (hY : nr_cY n T W D P A f_n a_there a_who a_name a_subject a_path) {G O : Nat → Prop} {U V B : Nat → Nat} (hgY : nr_gY n G O U V B a_given a_open a_giver a_target a_targetPath) (hF : nr_FN n T W D P A F) (hk : k < 6) (hFG : nr_FG n G O U (nr_cg F V B) k RG)
    (h : ∀ me ne, nr_YA me F → nr_NA ne RG → post (f_n, a_there, a_who, a_name, a_subject, a_path, a_given, a_giver, a_target, a_targetPath, a_open, me, ne)) : wpY_spread post (f_n, a_there, a_who, a_name, a_subject, a_path, a_given, a_giver, a_target, a_targetPath, a_open, a_member, a_near) (nI k) := by
  unfold wpY_spread
  dsimp only
  refine nr_y_work hY hF (fun me hme => ?_)
  refine loop_0 (fun l i (w : Nat → Int32) => wY_spread_6 post (nI k) f_n l (nI i) a_there a_who a_name a_subject a_path a_given a_giver a_target a_targetPath a_open me w) (fun j w => ∀ i, i < j → w i = nI (nr_up (fun _ => 1000) k 0 i)) 6 a_near (fun i hi => absurd hi (by omega)) ?_ ?_
  · intro l ne hne
    refine br_t (nI_le (Nat.le_refl 6) (by omega)) ?_
    have b0 : ∀ i, i < 6 → RG i ≤ nr_up (fun _ => 1000) k 0 i ∧ nr_up (fun _ => 1000) k 0 i ≤ 1000 := by
      intro i hi
      have h1 := hFG.1 i hi
      by_cases e : i = k
      · have h2 : RG k ≤ 0 := hFG.2.1 none trivial
        rw [e, nr_up_s]; omega
      · rw [nr_up_n e]; omega
    refine loop_0 (fun l i (w : (Nat → Int32) × (Nat → Nat)) => wY_spread_38 post f_n l (nI i) a_there a_who a_name a_subject a_path a_given a_giver a_target a_targetPath a_open me w.1) (fun p w => nr_NA w.1 w.2 ∧ nr_PB 6 RG p w.2 ∧ w.2 k = 0) 6 (ne, nr_up (fun _ => 1000) k 0) ⟨fun i hi => ⟨hne i hi, (b0 i hi).2⟩, ⟨b0, fun i hi z => absurd z (by omega)⟩, nr_up_s (m := fun _ => 1000) (c := k) (v := 0)⟩ ?_ ?_
    · intro l w hI
      obtain ⟨ne, m'⟩ := w
      dsimp only at hI ⊢
      obtain ⟨i1, i2, i3⟩ := hI
      refine br_t (nI_le (Nat.le_refl 6) (by omega)) (h me ne hme (fun i hi => ?_))
      rw [← nr_PB_all i2 (Nat.le_refl 6) i hi]; exact i1 i hi
    · intro l p w hp6 hI hn
      obtain ⟨ne, m'⟩ := w
      dsimp only at hI ⊢
      obtain ⟨i1, i2, i3⟩ := hI
      refine br_f (nI_ge (b := 6) hp6 (by omega)) ?_
      exact nr_y_s46 hY hgY hF hme hk hp6 hFG i2 i1 i3 (fun ne m' h1 h2 h3 => hn (ne, m') ⟨h1, h2, h3⟩)
  · intro l i w hi hI hn
    have hin : vp_in (nI i) 6 := vp_in_nI hi (by omega)
    have hcl : (nI i).toNatClampNeg = i := nI_clamp (by omega)
    refine br_f (nI_ge (b := 6) hi (by omega)) ?_
    refine pk_eq i k (fun e => ⟨hin, nm_r (e' := upd w i (nI 0)) (by rw [hcl]; rfl) (nm_r (nI_1 i) (hn (upd w i (nI 0)) (lt_s (fun j hj => ?_) ?_)))⟩) (fun e => ⟨hin, nm_r (e' := upd w i (nI 1000)) (by rw [hcl]; rfl) (nm_r (nI_1 i) (hn (upd w i (nI 1000)) (lt_s (fun j hj => ?_) ?_)))⟩)
    · rw [pk_un (by omega)]; exact hI j hj
    · rw [pk_us, e, nr_up_s]
    · rw [pk_un (by omega)]; exact hI j hj
    · rw [pk_us, nr_up_n e]
theorem nr_y_tc {post : Int32 → SY → Prop} {F RG : Nat → Nat} {k x : Nat} {n : Nat} {T : Nat → Prop} {W D P A : Nat → Nat} (hY : nr_cY n T W D P A f_n a_there a_who a_name a_subject a_path) {G O : Nat → Prop} {U V B : Nat → Nat} (hgY : nr_gY n G O U V B a_given a_open a_giver a_target a_targetPath) (hF : nr_FN n T W D P A F) (hk : k < n) (hx : x < n) (hFG : nr_FG n G O U (nr_cg F V B) k RG)
    (h : ∀ me ne q, nr_TR G U (nr_cg F V B) RG q x → post (nr_fd q) (f_n, a_there, a_who, a_name, a_subject, a_path, a_given, a_giver, a_target, a_targetPath, a_open, me, ne)) : wpY_trustCost post (f_n, a_there, a_who, a_name, a_subject, a_path, a_given, a_giver, a_target, a_targetPath, a_open, a_member, a_near) (nI k) (nI x) := by
  have hc := hY.1
  have hn6 := hc.2.1
  have hfn := hY.2.1
  have hU : ∀ g, g < 6 → U g < 6 := fun g hg => by have := hgY.1 g hg; omega
  unfold wpY_trustCost
  dsimp only
  refine nr_y_P1 hfn hn6 hk (br_f (by decide) (nr_y_P1 hfn hn6 hx (br_f (by decide) ?_)))
  refine nr_y_spread hY hgY hF (by omega) hFG (fun me ne hme hne => ?_)
  refine loop_0 (fun l i (w : Int32) => wY_trustCost_30 post (nI x) f_n a_there a_who a_name a_subject a_path a_given a_giver a_target a_targetPath a_open me ne l w (nI i)) (fun j w => ∃ q, w = nI q ∧ q ≤ 1000 ∧ (∀ g, g < j → G g → q ≤ RG (U g) + 1 + nr_cg F V B g x) ∧ (q < 1000 → ∃ g, g < 6 ∧ G g ∧ RG (U g) + 1 + nr_cg F V B g x ≤ q)) 6 1000 ⟨1000, rfl, Nat.le_refl _, fun g hg => absurd hg (by omega), fun z => absurd z (Nat.lt_irrefl 1000)⟩ ?_ ?_
  · intro l w hI
    obtain ⟨q, e, h1, h2, h3⟩ := hI
    refine br_t (nI_le (Nat.le_refl 6) (by omega)) ?_
    rw [e]
    exact nr_y_found h1 (h me ne q ⟨h1, h2, h3⟩)
  · intro l g w h6 hI hn
    obtain ⟨q, e, h1, h2, h3⟩ := hI
    have hgin : vp_in (nI g) 6 := vp_in_nI h6 (by omega)
    have hgcl : (nI g).toNatClampNeg = g := nI_clamp (by omega)
    have hb := hgY.1 g h6
    obtain ⟨e1, e2, e3⟩ := hgY.2.2.2 g h6
    have hUin : vp_in (nI (U g)) 6 := vp_in_nI (hU _ h6) (by omega)
    have hUcl : (nI (U g)).toNatClampNeg = U g := nI_clamp (by have := hU _ h6; omega)
    obtain ⟨n1, n2⟩ := hne _ (hU _ h6)
    have hsh := nr_sh_le (m := F) (p := V g) (a := B g) (x := x) (by omega) (by omega) (by omega) hF.1
    refine br_f (nI_ge (b := 6) h6 (by omega)) ⟨hgin, ?_⟩
    rw [hgcl]
    refine br_c (fun z => nm_r (nI_1 g) (hn w ⟨q, e, h1, lt_s h2 (fun w => absurd w ((hgY.2.1 g h6).mp z)), h3⟩)) (fun z => ⟨hgin, ?_⟩)
    have hG : G g := Classical.not_not.mp (fun w => z ((hgY.2.1 _ h6).mpr w))
    rw [e1, e2, e3, hUcl, n1, e]
    refine ⟨hUin, hgin, hgin, ?_⟩
    refine nr_y_shown hfn hn6 hme (by omega) (by omega) (by omega) (fun i hi h6 => nr_FN_hi hc hF hi h6) ?_
    refine nm_r (e' := nI (RG (U g) + 1 + nr_sh F (V g) (B g) x)) (by rw [nI_1, nI_add]) ?_
    refine pk_le q (RG (U g) + 1 + nr_sh F (V g) (B g) x) (fun hl => nm_r (nI_1 g) (hn _ ⟨q, rfl, h1, lt_s h2 (fun _ => hl), h3⟩)) (fun hl => nm_r (nI_1 g) (hn _ ⟨_, rfl, by omega, lt_s (fun g' hg' w => ?_) (fun _ => Nat.le_refl _), fun _ => ⟨g, h6, hG, Nat.le_refl _⟩⟩))
    have := h2 g' hg' w
    omega
theorem nr_y_tc0 {post : Int32 → SY → Prop} {n : Nat} {v1 v2 : Int32} (hn6 : n ≤ 6) (hfn : f_n = nI n) (hv : ¬ (nr_PR n v1 ∧ nr_PR n v2)) (h : post (-1) (f_n, a_there, a_who, a_name, a_subject, a_path, a_given, a_giver, a_target, a_targetPath, a_open, a_member, a_near)) : wpY_trustCost post (f_n, a_there, a_who, a_name, a_subject, a_path, a_given, a_giver, a_target, a_targetPath, a_open, a_member, a_near) v1 v2 := by
  unfold wpY_trustCost
  dsimp only
  by_cases k1 : nr_PR n v1
  · obtain ⟨a, ha, e1⟩ := k1
    rw [e1]
    refine nr_y_P1 hfn hn6 ha (br_f (by decide) ?_)
    by_cases k3 : nr_PR n v2
    · exact absurd ⟨⟨a, ha, e1⟩, k3⟩ hv
    · exact nr_y_P0 hfn hn6 k3 (br_t rfl h)
  · exact nr_y_P0 hfn hn6 k1 (br_t rfl h)
theorem nr_y_tr {post : Int32 → SY → Prop} {F RG : Nat → Nat} {k : Nat} {n : Nat} {T : Nat → Prop} {W D P A : Nat → Nat} (hY : nr_cY n T W D P A f_n a_there a_who a_name a_subject a_path) {G O : Nat → Prop} {U V B : Nat → Nat} (hgY : nr_gY n G O U V B a_given a_open a_giver a_target a_targetPath) (hF : nr_FN n T W D P A F) (hk : k < n) (hFG : nr_FG n G O U (nr_cg F V B) k RG)
    (h : ∀ r me ne, (∀ i, i < 32 → (bt r i = true ↔ i < n ∧ ∃ q, q < 1000 ∧ nr_TR G U (nr_cg F V B) RG q i)) → post r (f_n, a_there, a_who, a_name, a_subject, a_path, a_given, a_giver, a_target, a_targetPath, a_open, me, ne)) : wpY_trusted post (f_n, a_there, a_who, a_name, a_subject, a_path, a_given, a_giver, a_target, a_targetPath, a_open, a_member, a_near) (nI k) := by
  have hc := hY.1
  have hn6 := hc.2.1
  have hfn := hY.2.1
  refine loop_0 (fun l i (w : Int32 × (Nat → Int32) × (Nat → Int32)) => wY_trusted_4 post (nI k) l w.1 (nI i) f_n a_there a_who a_name a_subject a_path a_given a_giver a_target a_targetPath a_open w.2.1 w.2.2) (fun j w => ∀ i, i < 32 → (bt w.1 i = true ↔ i < j ∧ ∃ q, q < 1000 ∧ nr_TR G U (nr_cg F V B) RG q i)) n (0, a_member, a_near) (fun i hi => by rw [b_0]; simp) ?_ ?_
  · intro l w hI
    exact br_t (by rw [hfn]; exact nI_le (Nat.le_refl n) (by omega)) (h w.1 w.2.1 w.2.2 hI)
  · intro l x w hx hI hn
    obtain ⟨r, me, ne⟩ := w
    dsimp only at hI ⊢
    refine br_f (by rw [hfn]; exact nI_ge hx (by omega)) ?_
    refine nr_y_tc hY hgY hF hk hx hFG (fun me2 ne2 q hq => ?_)
    by_cases z : q < 1000
    · have e : nr_fd q = nI q := if_pos z
      rw [e]
      refine br_f (nI_pos (by omega)) (nm_e (nm_r (nI_1 x) (hn (_, me2, ne2) (fun i hi => ?_))))
      dsimp only
      rw [nr_bset _ (by omega) hi, hI i hi]
      by_cases e : i = x
      · rw [e]
        exact ⟨fun _ => ⟨by omega, q, z, hq⟩, fun _ => Or.inr rfl⟩
      · have : i < x ↔ i < x + 1 := by omega
        rw [this]; simp [e]
    · have e : nr_fd q = -1 := if_neg z
      rw [e]
      refine br_t (by decide) (nm_e (nm_r (nI_1 x) (hn (_, me2, ne2) (fun i hi => ?_))))
      dsimp only
      rw [b_or, b_0, Bool.or_false, hI i hi]
      by_cases e : i = x
      · rw [e]
        refine ⟨fun w => absurd w.1 (by omega), fun w => ?_⟩
        obtain ⟨_, q', h1, h2⟩ := w
        have := nr_TR_1 hq h2
        omega
      · have : i < x ↔ i < x + 1 := by omega
        rw [this]
theorem nr_y_tr0 {post : Int32 → SY → Prop} {n : Nat} {v1 : Int32} (hn6 : n ≤ 6) (hfn : f_n = nI n) (hv : ¬ nr_PR n v1) (h : post 0 (f_n, a_there, a_who, a_name, a_subject, a_path, a_given, a_giver, a_target, a_targetPath, a_open, a_member, a_near)) : wpY_trusted post (f_n, a_there, a_who, a_name, a_subject, a_path, a_given, a_giver, a_target, a_targetPath, a_open, a_member, a_near) v1 := by
  refine loop_0 (fun l i (w : Int32) => wY_trusted_4 post v1 l w (nI i) f_n a_there a_who a_name a_subject a_path a_given a_giver a_target a_targetPath a_open a_member a_near) (fun j w => w = 0) n 0 rfl ?_ ?_
  · intro l w hI
    refine br_t (by rw [hfn]; exact nI_le (Nat.le_refl n) (by omega)) ?_
    rw [hI]; exact h
  · intro l x w hx hI hn
    refine br_f (by rw [hfn]; exact nI_ge hx (by omega)) ?_
    refine nr_y_tc0 hn6 hfn (fun z => hv z.1) (br_t (by decide) (nm_e (nm_r (nI_1 x) (hn _ ?_))))
    rw [hI]; decide
end
end
section
section
variable {f_principals f_certSet f_grantSet f_openSet f_solved : Int32} {a_certOwner a_certName a_certPrincipal a_certPath a_grantOwner a_grantPrincipal a_grantPath a_costs a_settled a_reach a_trust a_before : Nat → Int32}
variable {f_n : Int32} {a_there a_who a_name a_subject a_path a_given a_giver a_target a_targetPath a_open a_member a_near : Nat → Int32}
theorem nr_x_tc {post : Int32 → SX → Prop} {F RG : Nat → Nat} {k x : Nat} {n : Nat} {T : Nat → Prop} {W D P A : Nat → Nat} (hX : nr_cX n T W D P A f_certSet a_certOwner a_certName a_certPrincipal a_certPath) {G O : Nat → Prop} {U V B : Nat → Nat} (hgX : nr_gX n G O U V B f_grantSet f_openSet a_grantOwner a_grantPrincipal a_grantPath) (hp : f_principals = nI n) (hF : nr_FN n T W D P A F) (hs : ¬ f_solved = 0 → nr_CA a_costs F) (hk : k < n) (hx : x < n) (hFG : nr_FG n G O U (nr_cg F V B) k RG)
    (h : ∀ g co st re tr q, ¬ g = 0 → nr_CA co F → nr_TR G U (nr_cg F V B) RG q x → post (nr_fd q) (f_principals, f_certSet, f_grantSet, f_openSet, g, a_certOwner, a_certName, a_certPrincipal, a_certPath, a_grantOwner, a_grantPrincipal, a_grantPath, co, st, re, tr, a_before)) : wpX_trustCost post (f_principals, f_certSet, f_grantSet, f_openSet, f_solved, a_certOwner, a_certName, a_certPrincipal, a_certPath, a_grantOwner, a_grantPrincipal, a_grantPath, a_costs, a_settled, a_reach, a_trust, a_before) (nI k) (nI x) := by
  have hn6 := hX.1.2.1
  have hxin : vp_in (nI x) 6 := vp_in_nI (by omega) (by omega)
  have hxcl : (nI x).toNatClampNeg = x := nI_clamp (by omega)
  unfold wpX_trustCost
  dsimp only
  refine nr_x_P1 hp hn6 hk (br_f (by decide) (nr_x_P1 hp hn6 hx (br_f (by decide) ?_)))
  refine nr_x_follow hX hgX hF hs hk hFG (fun g co st re tr Q hg hca hQ hT => ?_)
  dsimp only
  rw [hxcl, (hQ x (by omega)).1]
  refine ⟨hxin, ?_⟩
  have h1 := nr_fd_x (post := fun r => post r (f_principals, f_certSet, f_grantSet, f_openSet, g, a_certOwner, a_certName, a_certPrincipal, a_certPath, a_grantOwner, a_grantPrincipal, a_grantPath, co, st, re, tr, a_before)) (s := Q x) (h g co st re tr (Q x) hg hca (hT x (by omega)))
  exact ⟨h1.1, fun z => ⟨hxin, h1.2 z⟩⟩
theorem nr_x_tc0 {post : Int32 → SX → Prop} {n : Nat} {v1 v2 : Int32} (hn6 : n ≤ 6) (hp : f_principals = nI n) (hv : ¬ (nr_PR n v1 ∧ nr_PR n v2)) (h : post (-1) (f_principals, f_certSet, f_grantSet, f_openSet, f_solved, a_certOwner, a_certName, a_certPrincipal, a_certPath, a_grantOwner, a_grantPrincipal, a_grantPath, a_costs, a_settled, a_reach, a_trust, a_before)) : wpX_trustCost post (f_principals, f_certSet, f_grantSet, f_openSet, f_solved, a_certOwner, a_certName, a_certPrincipal, a_certPath, a_grantOwner, a_grantPrincipal, a_grantPath, a_costs, a_settled, a_reach, a_trust, a_before) v1 v2 := by
  unfold wpX_trustCost
  dsimp only
  by_cases k1 : nr_PR n v1
  · obtain ⟨a, ha, e1⟩ := k1
    rw [e1]
    refine nr_x_P1 hp hn6 ha (br_f (by decide) ?_)
    by_cases k3 : nr_PR n v2
    · exact absurd ⟨⟨a, ha, e1⟩, k3⟩ hv
    · exact nr_x_P0 hp hn6 k3 (br_t rfl h)
  · exact nr_x_P0 hp hn6 k1 (br_t rfl h)
theorem nr_x_tr {post : Int32 → SX → Prop} {F RG : Nat → Nat} {k : Nat} {n : Nat} {T : Nat → Prop} {W D P A : Nat → Nat} (hX : nr_cX n T W D P A f_certSet a_certOwner a_certName a_certPrincipal a_certPath) {G O : Nat → Prop} {U V B : Nat → Nat} (hgX : nr_gX n G O U V B f_grantSet f_openSet a_grantOwner a_grantPrincipal a_grantPath) (hp : f_principals = nI n) (hF : nr_FN n T W D P A F) (hs : ¬ f_solved = 0 → nr_CA a_costs F) (hk : k < n) (hFG : nr_FG n G O U (nr_cg F V B) k RG)
    (h : ∀ r g co st re tr, ¬ g = 0 → nr_CA co F → (∀ i, i < 32 → (bt r i = true ↔ i < n ∧ ∃ q, q < 1000 ∧ nr_TR G U (nr_cg F V B) RG q i)) → post r (f_principals, f_certSet, f_grantSet, f_openSet, g, a_certOwner, a_certName, a_certPrincipal, a_certPath, a_grantOwner, a_grantPrincipal, a_grantPath, co, st, re, tr, a_before)) : wpX_trusted post (f_principals, f_certSet, f_grantSet, f_openSet, f_solved, a_certOwner, a_certName, a_certPrincipal, a_certPath, a_grantOwner, a_grantPrincipal, a_grantPath, a_costs, a_settled, a_reach, a_trust, a_before) (nI k) := by
  have hn6 := hX.1.2.1
  unfold wpX_trusted
  dsimp only
  refine nr_x_P1 hp hn6 hk (br_f (by decide) ?_)
  refine nr_x_follow hX hgX hF hs hk hFG (fun g co st re tr Q hg hca hQ hT => ?_)
  refine loop_0 (fun l i (w : Int32) => wX_trusted_19 post f_principals f_certSet f_grantSet f_openSet g a_certOwner a_certName a_certPrincipal a_certPath a_grantOwner a_grantPrincipal a_grantPath co st re tr a_before l w (nI i)) (fun j w => ∀ i, i < 32 → (bt w i = true ↔ i < j ∧ Q i < 1000)) 6 0 (fun i hi => by rw [b_0]; simp) ?_ ?_
  · intro l w hI
    refine br_t (nI_le (Nat.le_refl 6) (by omega)) (h w g co st re tr hg hca (fun i hi => ?_))
    rw [hI i hi]
    constructor
    · intro z
      refine ⟨?_, Q i, z.2, hT i z.1⟩
      apply Nat.lt_of_not_le
      intro zn
      have := nr_TR_hi (hT i z.1) (fun g hg => nr_sh_hi hX.1 hF (hgX.1 g hg).2.1 (hgX.1 g hg).2.2 z.1 zn)
      omega
    · intro z
      obtain ⟨z1, q, z2, z3⟩ := z
      have := nr_TR_1 (hT i (by omega)) z3
      omega
  · intro l x w hx hI hn
    have hin : vp_in (nI x) 6 := vp_in_nI hx (by omega)
    have hcl : (nI x).toNatClampNeg = x := nI_clamp (by omega)
    obtain ⟨g1, g2⟩ := hQ x hx
    have b1 := nr_e_b (Q x)
    have far := nr_e_far (v := Q x)
    refine br_f (nI_ge (b := 6) hx (by omega)) ⟨hin, ?_⟩
    rw [hcl, g1]
    refine pk_le 1048576 (nr_e (Q x)) (fun hl => nm_r (nI_1 x) (hn w (fun i hi => ?_))) (fun hl => nm_e (nm_r (nI_1 x) (hn _ (fun i hi => ?_))))
    · rw [hI i hi]
      by_cases e : i = x
      · rw [e]; omega
      · omega
    · rw [nr_bset w (by omega) hi, hI i hi]
      by_cases e : i = x
      · rw [e]; omega
      · omega
theorem i_vc_trusted {k : Nat} {u : SX} {v : SY} (I : i_Rel k u v) (hk : k + 5 ≤ 2561) (v1 : Int32) : wpX_trusted (fun r u' => wpY_trusted (fun r' v' => r' = r ∧ i_Rel (k + 5) u' v') v v1) u v1 := by
  obtain ⟨f_principals, f_certSet, f_grantSet, f_openSet, f_solved, a_certOwner, a_certName, a_certPrincipal, a_certPath, a_grantOwner, a_grantPrincipal, a_grantPath, a_costs, a_settled, a_reach, a_trust, a_before⟩ := u
  obtain ⟨f_n, a_there, a_who, a_name, a_subject, a_path, a_given, a_giver, a_target, a_targetPath, a_open, a_member, a_near⟩ := v
  have I0 := I
  obtain ⟨n, T, W, D, P, A, G, O, U, V, B, hp, hX, hY, hhc, hgX, hgY, hhg, hsol⟩ := I
  have hc := hX.1
  have hn6 := hc.2.1
  have hfn := hY.2.1
  by_cases k1 : nr_PR n v1
  · obtain ⟨a, ha, rfl⟩ := k1
    obtain ⟨F, hF⟩ := nr_FN_ex (T := T) hc
    obtain ⟨RG, hFG⟩ := nr_FG_ex (n := n) (G := G) (O := O) (U := U) (nr_cg F V B) (k := a) hn6 (by omega) (fun g hg => by have := hgX.1 g hg; omega)
    refine nr_x_tr hX hgX hp hF (fun z => hsol z F hF) ha hFG (fun r g co st re tr hg hca hr => ?_)
    refine nr_y_tr hY hgY hF ha hFG (fun r' me ne hr' => ⟨nr_bext (fun i hi => ?_), ⟨n, T, W, D, P, A, G, O, U, V, B, hp, hX, hY, hhc, hgX, hgY, hhg, fun _ F' hF' => nr_CA_eq hca (fun i hi => (nr_FN_1 hX.1 hF hF' i hi).symm)⟩⟩)
    rw [hr i hi, hr' i hi]
  · unfold wpX_trusted
    dsimp only
    exact nr_x_P0 hp hn6 k1 (br_t rfl (nr_y_tr0 hn6 hfn k1 ⟨rfl, I0⟩))
theorem i_vc_trustCost {k : Nat} {u : SX} {v : SY} (I : i_Rel k u v) (hk : k + 5 ≤ 2561) (v1 : Int32) (v2 : Int32) : wpX_trustCost (fun r u' => wpY_trustCost (fun r' v' => r' = r ∧ i_Rel (k + 5) u' v') v v1 v2) u v1 v2 := by
  obtain ⟨f_principals, f_certSet, f_grantSet, f_openSet, f_solved, a_certOwner, a_certName, a_certPrincipal, a_certPath, a_grantOwner, a_grantPrincipal, a_grantPath, a_costs, a_settled, a_reach, a_trust, a_before⟩ := u
  obtain ⟨f_n, a_there, a_who, a_name, a_subject, a_path, a_given, a_giver, a_target, a_targetPath, a_open, a_member, a_near⟩ := v
  have I0 := I
  obtain ⟨n, T, W, D, P, A, G, O, U, V, B, hp, hX, hY, hhc, hgX, hgY, hhg, hsol⟩ := I
  have hc := hX.1
  have hn6 := hc.2.1
  have hfn := hY.2.1
  by_cases kk : nr_PR n v1 ∧ nr_PR n v2
  · obtain ⟨⟨a, ha, rfl⟩, ⟨x, hx, rfl⟩⟩ := kk
    obtain ⟨F, hF⟩ := nr_FN_ex (T := T) hc
    obtain ⟨RG, hFG⟩ := nr_FG_ex (n := n) (G := G) (O := O) (U := U) (nr_cg F V B) (k := a) hn6 (by omega) (fun g hg => by have := hgX.1 g hg; omega)
    refine nr_x_tc hX hgX hp hF (fun z => hsol z F hF) ha hx hFG (fun g co st re tr q hg hca hq => ?_)
    exact nr_y_tc hY hgY hF ha hx hFG (fun me ne q' hq' => ⟨by rw [nr_TR_1 hq' hq], ⟨n, T, W, D, P, A, G, O, U, V, B, hp, hX, hY, hhc, hgX, hgY, hhg, fun _ F' hF' => nr_CA_eq hca (fun i hi => (nr_FN_1 hX.1 hF hF' i hi).symm)⟩⟩)
  · exact nr_x_tc0 hn6 hp kk (nr_y_tc0 hn6 hfn kk ⟨rfl, I0⟩)
end
end
