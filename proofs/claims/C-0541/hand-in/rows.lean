section
/-! rows of the kit to paste (PURE-ROWS, BITS) -/
theorem pk_us {f : Nat → Int32} {k : Nat} {x : Int32} : upd f k x k = x := if_pos rfl
theorem pk_un {f : Nat → Int32} {k j : Nat} {x : Int32} (h : j ≠ k) : upd f k x j = f j := if_neg h
theorem pk_uLs {f : Nat → Int64} {k : Nat} {x : Int64} : vp_updL f k x k = x := if_pos rfl
theorem pk_uLn {f : Nat → Int64} {k j : Nat} {x : Int64} (h : j ≠ k) : vp_updL f k x j = f j := if_neg h
theorem pk_sub {a b : Nat} (h : b ≤ a) : nI a - nI b = nI (a - b) := by
  obtain ⟨c, rfl⟩ : ∃ c, a = c + b := ⟨a - b, by omega⟩
  rw [← nI_add, Int32.add_sub_cancel, Nat.add_sub_cancel]
theorem pk_m1 (n : Nat) : nI (n + 1) + (-1) = nI n := by
  rw [← nI_1, Int32.add_assoc, show (1 : Int32) + (-1) = 0 from rfl, Int32.add_zero]
theorem pk_mul (a b : Nat) : nI a * nI b = nI (a * b) := (Int32.ofNat_mul a b).symm
theorem pk_div {a d : Nat} (ha : a < 2 ^ 31) (h0 : 0 < d) (hd : d < 2 ^ 31) : nI a / nI d = nI (a / d) := by
  apply Int32.toInt_inj.mp
  rw [lg_idiv_nonneg (by rw [nI_toInt ha]; omega) (by rw [nI_toInt hd]; omega), nI_toInt ha, nI_toInt hd, nI_toInt (Nat.lt_of_le_of_lt (Nat.div_le_self a d) ha)]
  first | rfl | exact (Int.natCast_ediv _ _).symm
theorem pk_rem {a d : Nat} (ha : a < 2 ^ 31) (h0 : 0 < d) (hd : d < 2 ^ 31) : nI a - nI a / nI d * nI d = nI (a % d) := by
  rw [pk_div ha h0 hd, pk_mul, pk_sub (Nat.div_mul_le_self a d)]
  exact congrArg nI (by have := Nat.div_add_mod' a d; omega)
theorem pk_sub_toInt {a b : Nat} (ha : a < 2 ^ 30) (hb : b < 2 ^ 30) : (nI a - nI b).toInt = (a : Int) - b := by
  rw [Int32.toInt_sub, nI_toInt (by omega), nI_toInt (by omega)]
  exact Int.bmod_eq_of_le (by omega) (by omega)
theorem pk_sneg {a b : Nat} (hb : b < 2 ^ 30) (h : a < b) : nI a - nI b < 0 := by
  rw [Int32.lt_iff_toInt_lt, pk_sub_toInt (by omega) hb, show (0 : Int32).toInt = 0 from by decide]
  omega
theorem pk_ix (x : Int32) {n : Nat} (hn : n < 2 ^ 31) : x < 0 ∨ nI n ≤ x ∨ ∃ j : Nat, j < n ∧ x = nI j := by
  by_cases h : x < 0
  · exact Or.inl h
  · obtain ⟨j, hj, rfl⟩ := nI_of h
    by_cases h2 : j < n
    · exact Or.inr (Or.inr ⟨j, h2, rfl⟩)
    · exact Or.inr (Or.inl (nI_le (by omega) hj))
theorem pk_le {x y : Int32} {A B : Prop} (a b : Nat) (f : a ≤ b → A) (g : b < a → B) (hx : x = nI a := by rfl) (hy : y = nI b := by rfl) (ha : a < 2 ^ 31 := by omega) (hb : b < 2 ^ 31 := by omega) : (x ≤ y → A) ∧ (¬ x ≤ y → B) := by
  subst hx hy
  rw [nI_leI ha hb]
  exact ⟨f, fun z => g (by omega)⟩
theorem pk_lt {x y : Int32} {A B : Prop} (a b : Nat) (f : a < b → A) (g : b ≤ a → B) (hx : x = nI a := by rfl) (hy : y = nI b := by rfl) (ha : a < 2 ^ 31 := by omega) (hb : b < 2 ^ 31 := by omega) : (x < y → A) ∧ (¬ x < y → B) := by
  subst hx hy
  rw [nI_ltI ha hb]
  exact ⟨f, fun z => g (by omega)⟩
theorem pk_eq {x y : Int32} {A B : Prop} (a b : Nat) (f : a = b → A) (g : a ≠ b → B) (hx : x = nI a := by rfl) (hy : y = nI b := by rfl) (ha : a < 2 ^ 31 := by omega) (hb : b < 2 ^ 31 := by omega) : (x = y → A) ∧ (¬ x = y → B) := by
  subst hx hy
  rw [nI_eq ha hb]
  exact ⟨f, g⟩
theorem pk_in {x : Int32} (n N : Nat) (h : n < N) (hx : x = nI n := by rfl) (hN : N < 2 ^ 31 := by omega) : vp_in x N := by
  subst hx
  exact vp_in_nI h hN
theorem pk_cl {x : Int32} (n : Nat) (hx : x = nI n := by rfl) (h : n < 2 ^ 31 := by omega) : x.toNatClampNeg = n := by
  subst hx
  exact nI_clamp h
theorem pk_tn {n : Nat} (h : n < 2 ^ 32) : (nI n).toBitVec.toNat = n := Nat.mod_eq_of_lt h
theorem pk_and (x : Int32) {m : Int32} (k : Nat) (hm : m.toBitVec.toNat = 2 ^ k - 1) : x &&& m = nI (x.toBitVec.toNat % 2 ^ k) := by
  apply Int32.toBitVec_inj.mp
  apply BitVec.eq_of_toNat_eq
  rw [Int32.toBitVec_and, BitVec.toNat_and, hm, Nat.and_two_pow_sub_one_eq_mod]
  show _ = (BitVec.ofNat 32 _).toNat
  rw [BitVec.toNat_ofNat]
  exact (Nat.mod_eq_of_lt (Nat.lt_of_le_of_lt (Nat.mod_le _ _) x.toBitVec.isLt)).symm
theorem pk_andN {n : Nat} (h : n < 2 ^ 32) {m : Int32} (k : Nat) (hm : m.toBitVec.toNat = 2 ^ k - 1) : nI n &&& m = nI (n % 2 ^ k) := by
  rw [pk_and _ k hm, pk_tn h]
theorem pk_andE (x : Int32) {m : Int32} (k : Nat) (hm : m.toBitVec.toNat = 2 ^ k - 1) : ∃ j : Nat, j < 2 ^ k ∧ x &&& m = nI j := ⟨_, Nat.mod_lt _ (Nat.two_pow_pos k), pk_and x k hm⟩
theorem pk_andIn (x : Int32) {m : Int32} (k : Nat) (hm : m.toBitVec.toNat = 2 ^ k - 1) (hk : k ≤ 30) : vp_in (x &&& m) (2 ^ k) := by
  obtain ⟨j, hj, e⟩ := pk_andE x k hm
  rw [e]
  exact vp_in_nI hj (Nat.lt_of_le_of_lt (Nat.pow_le_pow_right (by decide) hk) (by decide))
theorem pk_shl (a s : Int32) (k : Nat) (hs : (s.toBitVec.smod 32).toNat = k) : (a <<< s).toBitVec.toNat = a.toBitVec.toNat * 2 ^ k % 2 ^ 32 := by
  show (a.toBitVec <<< (s.toBitVec.smod 32).toNat).toNat = _
  rw [hs, BitVec.toNat_shiftLeft, Nat.shiftLeft_eq]
theorem pk_shlN {n : Nat} (s : Int32) (k : Nat) (hs : (s.toBitVec.smod 32).toNat = k) (h : n * 2 ^ k < 2 ^ 32) : nI n <<< s = nI (n * 2 ^ k) := by
  apply Int32.toBitVec_inj.mp
  apply BitVec.eq_of_toNat_eq
  have hn : n < 2 ^ 32 := Nat.lt_of_le_of_lt (Nat.le_mul_of_pos_right n (Nat.two_pow_pos k)) h
  rw [pk_shl _ _ k hs, pk_tn hn, pk_tn h, Nat.mod_eq_of_lt h]
theorem pk_shr (a s : Int32) (k : Nat) (hs : (s.toBitVec.smod 32).toNat = k) : (a >>> s).toInt = a.toInt >>> k := by
  show (a.toBitVec.sshiftRight (s.toBitVec.smod 32).toNat).toInt = _
  rw [hs, BitVec.toInt_sshiftRight]
  rfl
theorem pk_shrN {n : Nat} (h : n < 2 ^ 31) (s : Int32) (k : Nat) (hs : (s.toBitVec.smod 32).toNat = k) : nI n >>> s = nI (n / 2 ^ k) := by
  apply Int32.toInt_inj.mp
  have h2 : n / 2 ^ k ≤ n := Nat.div_le_self _ _
  rw [pk_shr _ _ k hs, nI_toInt h, nI_toInt (by omega), Int.shiftRight_eq_div_pow]
  rfl
theorem pk_ushr (x s : Int32) (k : Nat) (hs : ((s.toUInt32 &&& Int32.toUInt32 31).toBitVec % 32).toNat = k) : (x.toUInt32 >>> (s.toUInt32 &&& Int32.toUInt32 31)).toInt32.toBitVec.toNat = x.toBitVec.toNat / 2 ^ k := by
  have e : (x.toUInt32 >>> (s.toUInt32 &&& Int32.toUInt32 31)).toInt32.toBitVec = x.toBitVec >>> k := by
    rw [← hs]
    exact UInt32.toBitVec_shiftRight _ _
  rw [e, BitVec.toNat_ushiftRight, Nat.shiftRight_eq_div_pow]
theorem pk_ushrN {n : Nat} (hn : n < 2 ^ 32) (s : Int32) (k : Nat) (hs : ((s.toUInt32 &&& Int32.toUInt32 31).toBitVec % 32).toNat = k) : ((nI n).toUInt32 >>> (s.toUInt32 &&& Int32.toUInt32 31)).toInt32 = nI (n / 2 ^ k) := by
  apply Int32.toBitVec_inj.mp
  apply BitVec.eq_of_toNat_eq
  rw [pk_ushr _ s k hs, pk_tn hn, pk_tn (Nat.lt_of_le_of_lt (Nat.div_le_self _ _) hn)]
theorem pk_loop {σ : Type} (W : Nat → Nat → σ → Prop) (I : Nat → σ → Prop) (e i0 : Nat) (s : σ) (hi : i0 ≤ e) (h0 : I i0 s) (hx : ∀ n s, I e s → W (n + 1) e s)
    (hs : ∀ n i s, i < e → I i s → (∀ s', I (i + 1) s' → W n (i + 1) s') → W (n + 1) i s) : ∃ n, W n i0 s :=
  ⟨e + 1, loop_i W I e hx hs (e + 1) i0 s hi (by omega) h0⟩
theorem pk_loopD {σ : Type} (W : Nat → Nat → σ → Prop) (I : Nat → σ → Prop) (hx : ∀ n s, I 0 s → W (n + 1) 0 s)
    (hs : ∀ n i s, I (i + 1) s → (∀ s', I i s' → W n i s') → W (n + 1) (i + 1) s) : ∀ (e : Nat) (s : σ), I e s → W (e + 1) e s := by
  intro e
  induction e with
  | zero => exact fun s h => hx 0 s h
  | succ e ih => exact fun s h => hs (e + 1) e s h (fun s' h' => ih s' h')
def bt (x : Int32) (i : Nat) : Bool := x.toBitVec.getLsbD i
theorem b_ext {x y : Int32} (h : ∀ i, i < 32 → bt x i = bt y i) : x = y := Int32.toBitVec_inj.mp (BitVec.eq_of_getLsbD_eq (fun i hi => h i hi))
theorem b_or (x y : Int32) (i : Nat) : bt (x ||| y) i = (bt x i || bt y i) := by unfold bt; rw [Int32.toBitVec_or, BitVec.getLsbD_or]
theorem b_and (x y : Int32) (i : Nat) : bt (x &&& y) i = (bt x i && bt y i) := by unfold bt; rw [Int32.toBitVec_and, BitVec.getLsbD_and]
theorem b_xor (x y : Int32) (i : Nat) : bt (x ^^^ y) i = (bt x i ^^ bt y i) := by unfold bt; rw [Int32.toBitVec_xor, BitVec.getLsbD_xor]
theorem b_big {x : Int32} {i : Nat} (h : 32 ≤ i) : bt x i = false := BitVec.getLsbD_of_ge _ _ h
theorem b_m1 : ∀ i, i < 32 → bt (-1) i = true := by decide +kernel
theorem b_0 (i : Nat) : bt 0 i = false := BitVec.getLsbD_zero
theorem s_l : ∀ n, n < 32 → ((nI n &&& 31).toBitVec.smod 32).toNat = n := by decide +kernel
theorem s_u : ∀ n, n < 32 → (((nI n).toUInt32 &&& Int32.toUInt32 31).toBitVec % 32).toNat = n := by decide +kernel
theorem b_shl (n : Nat) (hn : n < 32) (x : Int32) {i : Nat} (hi : i < 32) : bt (x <<< (nI n &&& 31)) i = (decide (n ≤ i) && bt x (i - n)) := by
  unfold bt
  rw [Int32.toBitVec_shiftLeft]
  show (x.toBitVec <<< ((nI n &&& 31).toBitVec.smod 32).toNat).getLsbD i = _
  rw [s_l n hn, BitVec.getLsbD_shiftLeft]
  rcases Nat.lt_or_ge i n with h | h
  · simp [h, Nat.not_le.mpr h]
  · simp [hi, h, Nat.not_lt.mpr h]
theorem b_ushr (n : Nat) (hn : n < 32) (x : Int32) (i : Nat) : bt ((x.toUInt32 >>> ((nI n).toUInt32 &&& Int32.toUInt32 31)).toInt32) i = bt x (n + i) := by
  show (x.toUInt32 >>> ((nI n).toUInt32 &&& Int32.toUInt32 31)).toBitVec.getLsbD i = x.toUInt32.toBitVec.getLsbD (n + i)
  rw [UInt32.toBitVec_shiftRight]
  show (x.toUInt32.toBitVec >>> (((nI n).toUInt32 &&& Int32.toUInt32 31).toBitVec % 32).toNat).getLsbD i = _
  rw [s_u n hn, BitVec.getLsbD_ushiftRight]
theorem b_sshr (n : Nat) (hn : n < 32) (x : Int32) {i : Nat} (hi : i < 32) : bt (x >>> (nI n &&& 31)) i = if n + i < 32 then bt x (n + i) else bt x 31 := by
  unfold bt
  rw [Int32.toBitVec_shiftRight]
  show (x.toBitVec.sshiftRight ((nI n &&& 31).toBitVec.smod 32).toNat).getLsbD i = _
  rw [s_l n hn, BitVec.getLsbD_sshiftRight, BitVec.msb_eq_getLsbD_last]
  simp [hi]
theorem nx_and (a b : Nat) : nI a &&& nI b = nI (a &&& b) := by
  apply Int32.toBitVec_inj.1
  show BitVec.ofNat 32 a &&& BitVec.ofNat 32 b = BitVec.ofNat 32 (a &&& b)
  apply BitVec.eq_of_getLsbD_eq
  intro i hi
  simp [hi]
theorem ts_nf {x : Bool} (h : ¬ x = false) : x = true := by cases x <;> first | rfl | exact absurd rfl h
theorem ts_nt {x : Bool} (h : ¬ x = true) : x = false := by cases x <;> first | rfl | exact absurd rfl h
theorem wb_tb (n : Nat) : (lN n).toBitVec = BitVec.ofNat 64 n := rfl
theorem wb_inj {a b : Int64} (h : a.toBitVec = b.toBitVec) : a = b := Int64.toBitVec_inj.mp h
theorem wb_tn {n : Nat} (h : n < 2 ^ 64) : (lN n).toBitVec.toNat = n := by rw [wb_tb, BitVec.toNat_ofNat, Nat.mod_eq_of_lt h]
theorem wb_of (x : Int64) : ∃ n, n < 2 ^ 64 ∧ x = lN n := ⟨x.toBitVec.toNat, x.toBitVec.isLt, wb_inj (by rw [wb_tb]; simp)⟩
theorem wb_of32 (x : Int32) : ∃ n, n < 2 ^ 32 ∧ x = nI n := ⟨x.toBitVec.toNat, x.toBitVec.isLt, Int32.toBitVec_inj.mp (by show _ = BitVec.ofNat 32 _; simp)⟩
theorem wb_c : ∀ k, k < 64 → ((nI k).toInt64 &&& 63) = lN k := by decide +kernel
theorem wb_cu : ∀ k, k < 64 → ((nI k).toInt64.toUInt64 &&& Int64.toUInt64 63) = UInt64.ofNat k := by decide +kernel
theorem wb_sm : ∀ k, k < 64 → (BitVec.ofNat 64 k).smod 64 = BitVec.ofNat 64 k := by decide +kernel
theorem wb_pw {a b : Nat} (h : a ≤ b) : 2 ^ b = 2 ^ a * 2 ^ (b - a) := by rw [← Nat.pow_add]; congr 1; omega
theorem wb_lt2 {a b : Nat} (h : a < b) : 2 ^ a < 2 ^ b := Nat.pow_lt_pow_right (by decide) h
theorem wb_mod (n : Nat) : lN n = lN (n % 2 ^ 64) := wb_inj (by rw [wb_tb, wb_tb]; apply BitVec.eq_of_toNat_eq; rw [BitVec.toNat_ofNat, BitVec.toNat_ofNat, Nat.mod_mod])
theorem wb_shr {n k : Nat} (hn : n < 2 ^ 64) (hk : k < 64) : ((lN n).toUInt64 >>> ((nI k).toInt64.toUInt64 &&& Int64.toUInt64 63)).toInt64 = lN (n / 2 ^ k) := by
  rw [wb_cu k hk]
  apply wb_inj
  apply BitVec.eq_of_toNat_eq
  show ((lN n).toUInt64 >>> UInt64.ofNat k).toNat = (BitVec.ofNat 64 _).toNat
  have h1 : (UInt64.ofNat k).toNat = k := by
    show (BitVec.ofNat 64 k).toNat = k
    rw [BitVec.toNat_ofNat, Nat.mod_eq_of_lt (by omega)]
  have h2 : (lN n).toUInt64.toNat = n := wb_tn hn
  rw [UInt64.toNat_shiftRight, h1, h2, Nat.mod_eq_of_lt hk, Nat.shiftRight_eq_div_pow, BitVec.toNat_ofNat, Nat.mod_eq_of_lt (Nat.lt_of_le_of_lt (Nat.div_le_self _ _) hn)]
theorem wb_shl (n : Nat) {k : Nat} (hk : k < 64) : lN n <<< ((nI k).toInt64 &&& 63) = lN (n * 2 ^ k) := by
  rw [wb_c k hk]
  apply wb_inj
  rw [Int64.toBitVec_shiftLeft, wb_tb, wb_tb, wb_tb, wb_sm k hk]
  apply BitVec.eq_of_toNat_eq
  rw [BitVec.shiftLeft_eq', BitVec.toNat_shiftLeft, BitVec.toNat_ofNat, BitVec.toNat_ofNat, BitVec.toNat_ofNat, Nat.mod_eq_of_lt (show k < 2 ^ 64 by omega), Nat.shiftLeft_eq, Nat.mul_mod, Nat.mod_mod, ← Nat.mul_mod]
theorem wb_and {a b : Nat} (ha : a < 2 ^ 64) (hb : b < 2 ^ 64) : lN a &&& lN b = lN (a &&& b) := by
  apply wb_inj
  rw [Int64.toBitVec_and, wb_tb, wb_tb, wb_tb]
  apply BitVec.eq_of_toNat_eq
  rw [BitVec.toNat_and, BitVec.toNat_ofNat, BitVec.toNat_ofNat, BitVec.toNat_ofNat, Nat.mod_eq_of_lt ha, Nat.mod_eq_of_lt hb, Nat.mod_eq_of_lt (Nat.and_lt_two_pow _ hb)]
theorem wb_or {a b : Nat} (ha : a < 2 ^ 64) (hb : b < 2 ^ 64) : lN a ||| lN b = lN (a ||| b) := by
  apply wb_inj
  rw [Int64.toBitVec_or, wb_tb, wb_tb, wb_tb]
  apply BitVec.eq_of_toNat_eq
  rw [BitVec.toNat_or, BitVec.toNat_ofNat, BitVec.toNat_ofNat, BitVec.toNat_ofNat, Nat.mod_eq_of_lt ha, Nat.mod_eq_of_lt hb, Nat.mod_eq_of_lt (Nat.or_lt_two_pow ha hb)]
theorem wb_mask {n k : Nat} (hn : n < 2 ^ 64) (hk : k < 64) : lN n &&& lN (2 ^ k - 1) = lN (n % 2 ^ k) := by
  rw [wb_and hn (by have := wb_lt2 hk; omega), Nat.and_two_pow_sub_one_eq_mod]
theorem wb_a1 {n : Nat} (hn : n < 2 ^ 64) : lN n &&& 1 = lN (n % 2) := wb_mask (k := 1) hn (by decide)
theorem wb_bit {n k : Nat} (hn : n < 2 ^ 64) (hk : k < 64) : ((lN n).toUInt64 >>> ((nI k).toInt64.toUInt64 &&& Int64.toUInt64 63)).toInt64 &&& 1 = lN (n / 2 ^ k % 2) := by
  rw [wb_shr hn hk, wb_a1 (Nat.lt_of_le_of_lt (Nat.div_le_self _ _) hn)]
end
section
/-! bits of longs and ints; counts, all, any over an initial segment -/
def nb_b (x : Int64) (b : Nat) : Bool := x.toBitVec.getLsbD b
theorem nb_ext {x y : Int64} (h : ∀ b, b < 64 → nb_b x b = nb_b y b) : x = y := Int64.toBitVec_inj.mp (BitVec.eq_of_getLsbD_eq (fun i hi => h i hi))
theorem nb_or (x y : Int64) (i : Nat) : nb_b (x ||| y) i = (nb_b x i || nb_b y i) := by unfold nb_b; rw [Int64.toBitVec_or, BitVec.getLsbD_or]
theorem nb_and (x y : Int64) (i : Nat) : nb_b (x &&& y) i = (nb_b x i && nb_b y i) := by unfold nb_b; rw [Int64.toBitVec_and, BitVec.getLsbD_and]
theorem nb_xor (x y : Int64) (i : Nat) : nb_b (x ^^^ y) i = (nb_b x i ^^ nb_b y i) := by unfold nb_b; rw [Int64.toBitVec_xor, BitVec.getLsbD_xor]
theorem nb_m1 : ∀ b, b < 64 → nb_b (-1) b = true := by decide +kernel
theorem nb_0 (b : Nat) : nb_b 0 b = false := BitVec.getLsbD_zero
theorem nb_15 : ∀ b, b < 64 → nb_b 15 b = decide (b < 4) := by decide +kernel
theorem nb_not (x : Int64) {b : Nat} (h : b < 64) : nb_b (x ^^^ (-1)) b = !nb_b x b := by rw [nb_xor, nb_m1 b h, Bool.xor_true]
theorem nb_z {x : Int64} : x = 0 ↔ ∀ b, b < 64 → nb_b x b = false :=
  ⟨fun h b _ => by rw [h]; exact nb_0 b, fun h => nb_ext (fun b hb => by rw [h b hb, nb_0])⟩
theorem nb_nz {x : Int64} (h : ¬ x = 0) : ∃ b, b < 64 ∧ nb_b x b = true := by
  apply Classical.byContradiction
  intro g
  apply h
  rw [nb_z]
  intro b hb
  cases e : nb_b x b
  · rfl
  · exact absurd ⟨b, hb, e⟩ g
theorem nb_lN {n b : Nat} (h : b < 64) : nb_b (lN n) b = n.testBit b := by
  unfold nb_b
  rw [wb_tb, BitVec.getLsbD_ofNat, decide_eq_true h, Bool.true_and]
theorem nb_o1 {c : Bool} : nI c.toNat = 1 ↔ c = true := by cases c <;> decide
theorem nb_o0 {c : Bool} : nI c.toNat = 0 ↔ c = false := by cases c <;> decide
theorem nb_tbm (n k : Nat) : n / 2 ^ k % 2 = (n.testBit k).toNat := by
  rw [Nat.testBit_eq_decide_div_mod_eq]
  by_cases h : n / 2 ^ k % 2 = 1
  · rw [decide_eq_true h, h]; rfl
  · rw [decide_eq_false h]
    show _ = 0
    omega
/-- the bit of a long, cast to int -/
theorem nb_sh (x : Int64) {k : Nat} (hk : k < 64) : (((x.toUInt64 >>> ((nI k).toInt64.toUInt64 &&& Int64.toUInt64 63)).toInt64).toInt32) &&& 1 = nI (nb_b x k).toNat := by
  obtain ⟨n, hn, rfl⟩ := wb_of x
  rw [wb_shr hn hk, lN_i, nb_lN hk, ← nb_tbm]
  show nI (n / 2 ^ k) &&& nI 1 = _
  rw [nx_and, Nat.and_one_is_mod]
theorem nb_lo (x : Int64) {k : Nat} (hk : k < 64) : ((x.toUInt64 >>> ((nI k).toInt64.toUInt64 &&& Int64.toUInt64 63)).toInt64 &&& 1) = 1 ↔ nb_b x k = true := by
  obtain ⟨n, hn, rfl⟩ := wb_of x
  rw [wb_bit hn hk, nb_lN hk, nb_tbm]
  cases n.testBit k
  · exact ⟨fun h => absurd h (by decide), fun h => nomatch h⟩
  · exact ⟨fun _ => rfl, fun _ => rfl⟩
/-- x >>> k << k: the bits from k on -/
theorem nb_cut (x : Int64) {k b : Nat} (hk : k < 64) (hb : b < 64) : nb_b (((x.toUInt64 >>> ((nI k).toInt64.toUInt64 &&& Int64.toUInt64 63)).toInt64) <<< ((nI k).toInt64 &&& 63)) b = (decide (k ≤ b) && nb_b x b) := by
  obtain ⟨n, hn, rfl⟩ := wb_of x
  rw [wb_shr hn hk, wb_shl _ hk, nb_lN hb, nb_lN hb, ← Nat.shiftLeft_eq, Nat.testBit_shiftLeft, ← Nat.shiftRight_eq_div_pow, Nat.testBit_shiftRight]
  by_cases h : k ≤ b
  · rw [decide_eq_true (show b ≥ k from h), show k + (b - k) = b by omega]
  · rw [decide_eq_false (show ¬ b ≥ k from h), Bool.false_and, Bool.false_and]
theorem nb_one : ∀ i, i < 32 → bt 1 i = decide (i = 0) := by decide +kernel
/-- the bit of an int -/
theorem nb_x (x : Int32) {l : Nat} (hl : l < 32) : (x >>> (nI l &&& 31)) &&& 1 = nI (bt x l).toNat := by
  apply b_ext
  intro i hi
  rw [b_and, b_sshr l hl x hi, nb_one i hi]
  by_cases h0 : i = 0
  · subst h0
    rw [if_pos (by omega), Nat.add_zero]
    cases bt x l <;> decide
  · rw [decide_eq_false h0, Bool.and_false]
    cases bt x l
    · exact (b_0 i).symm
    · exact ((nb_one i hi).trans (decide_eq_false h0)).symm
theorem nb_tb (m : Nat) {e : Nat} (h : e < 32) : bt (nI m) e = m.testBit e := by
  show (BitVec.ofNat 32 m).getLsbD e = _
  rw [BitVec.getLsbD_ofNat, decide_eq_true h, Bool.true_and]
theorem nb_m (m : Nat) {e : Nat} (h : e < 32) : (nI m >>> (nI e &&& 31)) &&& 1 = nI (m.testBit e).toNat := by rw [nb_x _ h, nb_tb m h]
theorem nb_s1 {l i : Nat} (hl : l < 32) (hi : i < 32) : bt ((1 : Int32) <<< (nI l &&& 31)) i = decide (i = l) := by
  rw [b_shl l hl 1 hi]
  by_cases h : l ≤ i
  · rw [decide_eq_true h, Bool.true_and, nb_one _ (by omega)]
    by_cases e : i = l
    · rw [decide_eq_true e, decide_eq_true (by omega)]
    · rw [decide_eq_false e, decide_eq_false (by omega)]
  · rw [decide_eq_false h, decide_eq_false (by omega), Bool.false_and]
theorem nb_inot (x : Int32) {i : Nat} (h : i < 32) : bt (x ^^^ (-1)) i = !bt x i := by rw [b_xor, b_m1 i h, Bool.xor_true]
/-! counts, all, any -/
def tm_ct (g : Nat → Bool) : Nat → Nat
  | 0 => 0
  | n + 1 => tm_ct g n + (g n).toNat
def tm_al (g : Nat → Bool) : Nat → Bool
  | 0 => true
  | n + 1 => tm_al g n && g n
def tm_an (g : Nat → Bool) : Nat → Bool
  | 0 => false
  | n + 1 => tm_an g n || g n
def tm_sm (g : Nat → Nat) : Nat → Nat
  | 0 => 0
  | n + 1 => tm_sm g n + g n
theorem tm_al_iff (g : Nat → Bool) (n : Nat) : tm_al g n = true ↔ ∀ i, i < n → g i = true := by
  induction n with
  | zero => exact ⟨fun _ i h => absurd h (Nat.not_lt_zero i), fun _ => rfl⟩
  | succ n ih =>
    show (tm_al g n && g n) = true ↔ _
    rw [Bool.and_eq_true, ih]
    constructor
    · intro h i hi
      rcases Nat.lt_or_ge i n with z | z
      · exact h.1 i z
      · have : i = n := by omega
        subst this
        exact h.2
    · intro h
      exact ⟨fun i hi => h i (by omega), h n (by omega)⟩
theorem tm_an_iff (g : Nat → Bool) (n : Nat) : tm_an g n = true ↔ ∃ i, i < n ∧ g i = true := by
  induction n with
  | zero => exact ⟨fun h => (nomatch h), fun ⟨i, h, _⟩ => absurd h (Nat.not_lt_zero i)⟩
  | succ n ih =>
    show (tm_an g n || g n) = true ↔ _
    rw [Bool.or_eq_true, ih]
    constructor
    · intro h
      rcases h with ⟨i, h1, h2⟩ | h
      · exact ⟨i, by omega, h2⟩
      · exact ⟨n, by omega, h⟩
    · intro ⟨i, h1, h2⟩
      rcases Nat.lt_or_ge i n with z | z
      · exact Or.inl ⟨i, z, h2⟩
      · have : i = n := by omega
        subst this
        exact Or.inr h2
theorem tm_an_0 {g : Nat → Bool} {n : Nat} : tm_an g n = false ↔ ∀ i, i < n → g i = false := by
  constructor
  · intro h i hi
    cases e : g i
    · rfl
    · have := (tm_an_iff g n).mpr ⟨i, hi, e⟩
      rw [h] at this
      exact nomatch this
  · intro h
    cases e : tm_an g n
    · rfl
    · obtain ⟨i, hi, e2⟩ := (tm_an_iff g n).mp e
      rw [h i hi] at e2
      exact nomatch e2
theorem tm_ct_congr {f g : Nat → Bool} {n : Nat} (h : ∀ i, i < n → f i = g i) : tm_ct f n = tm_ct g n := by
  induction n with
  | zero => rfl
  | succ n ih =>
    show tm_ct f n + (f n).toNat = tm_ct g n + (g n).toNat
    rw [ih (fun i hi => h i (by omega)), h n (by omega)]
theorem tm_al_congr {f g : Nat → Bool} {n : Nat} (h : ∀ i, i < n → f i = g i) : tm_al f n = tm_al g n := by
  induction n with
  | zero => rfl
  | succ n ih =>
    show (tm_al f n && f n) = (tm_al g n && g n)
    rw [ih (fun i hi => h i (by omega)), h n (by omega)]
theorem tm_an_congr {f g : Nat → Bool} {n : Nat} (h : ∀ i, i < n → f i = g i) : tm_an f n = tm_an g n := by
  induction n with
  | zero => rfl
  | succ n ih =>
    show (tm_an f n || f n) = (tm_an g n || g n)
    rw [ih (fun i hi => h i (by omega)), h n (by omega)]
theorem tm_sm_congr {f g : Nat → Nat} {n : Nat} (h : ∀ i, i < n → f i = g i) : tm_sm f n = tm_sm g n := by
  induction n with
  | zero => rfl
  | succ n ih =>
    show tm_sm f n + f n = tm_sm g n + g n
    rw [ih (fun i hi => h i (by omega)), h n (by omega)]
theorem tm_toNat_le (c : Bool) : c.toNat ≤ 1 := by cases c <;> decide
theorem tm_ct_le (g : Nat → Bool) (n : Nat) : tm_ct g n ≤ n := by
  induction n with
  | zero => exact Nat.le_refl 0
  | succ n ih =>
    have := tm_toNat_le (g n)
    show tm_ct g n + (g n).toNat ≤ n + 1
    omega
theorem tm_ct_sm (g : Nat → Bool) (n : Nat) : tm_ct g n = tm_sm (fun i => (g i).toNat) n := by
  induction n with
  | zero => rfl
  | succ n ih => show tm_ct g n + _ = tm_sm _ n + _; rw [ih]
theorem tm_ct_add (g : Nat → Bool) (a n : Nat) : tm_ct g (a + n) = tm_ct g a + tm_ct (fun i => g (a + i)) n := by
  induction n with
  | zero => rfl
  | succ n ih =>
    show tm_ct g (a + n) + (g (a + n)).toNat = tm_ct g a + (tm_ct (fun i => g (a + i)) n + (g (a + n)).toNat)
    rw [ih, Nat.add_assoc]
theorem tm_ct_1 (g : Nat → Bool) (n : Nat) : tm_ct g (n + 1) = (g 0).toNat + tm_ct (fun i => g (i + 1)) n := by
  rw [Nat.add_comm n 1, tm_ct_add g 1 n]
  show 0 + (g 0).toNat + _ = _
  rw [Nat.zero_add]
  congr 1
  exact tm_ct_congr (fun i _ => by rw [Nat.add_comm])
/-- parts of 64 -/
theorem tm_ct_64 (g : Nat → Bool) (k : Nat) : tm_sm (fun q => tm_ct (fun b => g (64 * q + b)) 64) k = tm_ct g (64 * k) := by
  induction k with
  | zero => rfl
  | succ k ih =>
    show tm_sm _ k + tm_ct (fun b => g (64 * k + b)) 64 = _
    rw [ih, show 64 * (k + 1) = 64 * k + 64 by omega, tm_ct_add]
/-- beyond the last one -/
theorem tm_ct_cut (g : Nat → Bool) {n N : Nat} (h : n ≤ N) (h2 : ∀ i, n ≤ i → i < N → g i = false) : tm_ct g N = tm_ct g n := by
  obtain ⟨k, rfl⟩ : ∃ k, N = n + k := ⟨N - n, by omega⟩
  rw [tm_ct_add]
  have : tm_ct (fun i => g (n + i)) k = 0 := by
    clear h
    induction k with
    | zero => rfl
    | succ k ih =>
      show tm_ct _ k + (g (n + k)).toNat = 0
      rw [ih (fun i a b => h2 i a (by omega)), h2 (n + k) (by omega) (by omega)]
      rfl
  rw [this, Nat.add_zero]
/-! the count of ones -/
theorem nb_pc : ∀ (w n : Nat), n < 2 ^ w → 0 < n → tm_ct (fun b => (n &&& (n - 1)).testBit b) w + 1 = tm_ct (fun b => n.testBit b) w := by
  intro w
  induction w with
  | zero => intro n h h0; rw [Nat.pow_zero] at h; omega
  | succ w ih =>
    intro n h h0
    rw [Nat.pow_succ] at h
    have e1 : ∀ x : Nat, tm_ct (fun b => x.testBit b) (w + 1) = (x.testBit 0).toNat + tm_ct (fun b => (x / 2).testBit b) w := by
      intro x
      rw [tm_ct_1]
      congr 1
      exact tm_ct_congr (fun i _ => Nat.testBit_succ x i)
    rw [e1, e1, Nat.and_div_two, Nat.testBit_and, Nat.testBit_zero, Nat.testBit_zero]
    rcases Nat.mod_two_eq_zero_or_one n with z | z
    · have a1 : (n - 1) / 2 = n / 2 - 1 := by omega
      have a2 := ih (n / 2) (by omega) (by omega)
      rw [a1, decide_eq_false (show ¬ n % 2 = 1 by omega), Bool.false_and]
      show 0 + _ + 1 = 0 + _
      omega
    · have a1 : (n - 1) / 2 = n / 2 := by omega
      rw [a1, Nat.and_self, decide_eq_true z, decide_eq_false (show ¬ (n - 1) % 2 = 1 by omega)]
      show 0 + _ + 1 = 1 + _
      omega
theorem nb_pop {x : Int64} (h : ¬ x = 0) : tm_ct (nb_b (x &&& (x - 1))) 64 + 1 = tm_ct (nb_b x) 64 := by
  obtain ⟨n, hn, rfl⟩ := wb_of x
  have h0 : 0 < n := by
    rcases Nat.eq_zero_or_pos n with z | z
    · subst z; exact absurd rfl h
    · exact z
  have e : lN n - 1 = lN (n - 1) := lN_sub (b := 1) h0
  rw [e, wb_and hn (by omega)]
  rw [tm_ct_congr (fun i hi => nb_lN (n := n &&& (n - 1)) hi), tm_ct_congr (fun i hi => nb_lN (n := n) hi)]
  exact nb_pc 64 n hn h0
theorem nb_pop0 : tm_ct (nb_b 0) 64 = 0 := by
  rw [tm_ct_congr (fun i _ => nb_0 i)]
  exact tm_ct_cut (fun _ => false) (n := 0) (Nat.zero_le _) (fun _ _ _ => rfl)
end
section
/-! the pure meaning of formulas. A formula: its length, its kinds, its arguments -/
abbrev tm_F : Type := Nat × (Nat → Int32) × (Nat → Int32)
def tm_NN (d : Nat) : Nat := 2 ^ (d + d * d)
def tm_el (l v : Nat) : Nat := if v = 0 then l % 3 else if v = 1 then l / 3 % 3 else l / 9
def tm_pl (v : Nat) : Nat := if v = 0 then 1 else if v = 1 then 3 else 9
def tm_isl (d l : Nat) : Bool := decide (l < 27) && (decide (l % 3 < d) && (decide (l / 3 % 3 < d) && decide (l / 9 < d)))
def tm_wt (l v e : Nat) : Nat := l - tm_pl v * tm_el l v + tm_pl v * e
def tm_rl (d m e f : Nat) : Bool := m.testBit (d + d * e + f)
def tm_rc (d m e f : Nat) : Bool := decide (e = f) || (tm_rl d m e f || tm_an (fun x => tm_rl d m e x && tm_rl d m x f) d)
def tm_at (d m k a l : Nat) : Bool :=
  if k = 0 then m.testBit (tm_el l a)
  else if k = 1 then tm_rl d m (tm_el l (a / 3)) (tm_el l (a % 3))
  else if k = 2 then decide (tm_el l (a / 3) = tm_el l (a % 3))
  else tm_rc d m (tm_el l (a / 3)) (tm_el l (a % 3))
def tm_cb (k : Nat) (f g : Bool) : Bool := if k = 5 then f && g else if k = 6 then f || g else if k = 7 then !f || g else !(f ^^ g)
def tm_ls (d k a : Nat) : Nat := if k = 9 then d else if k = 10 then 1 else 2 + a / 3
def tm_qt (d k a : Nat) (g : Nat → Bool) : Bool := decide (tm_ls d k a ≤ tm_ct g d)
def tm_k (f : tm_F) (i : Nat) : Nat := (f.2.1 i).toNatClampNeg
def tm_a (f : tm_F) (i : Nat) : Nat := (f.2.2 i).toNatClampNeg
/-- how many formulas a token takes -/
def tm_tn (k : Nat) : Nat := if k < 4 then 0 else if k = 4 then 1 else if k < 9 then 2 else 1
def tm_dp (f : tm_F) : Nat → Nat
  | 0 => 0
  | i + 1 => tm_dp f i + 1 - tm_tn (tm_k f i)
def tm_sv (d m : Nat) (f : tm_F) : Nat → Nat → Nat → Bool
  | 0 => fun _ _ => false
  | i + 1 => fun p l =>
    if tm_k f i < 4 then (if p = tm_dp f i then tm_at d m (tm_k f i) (tm_a f i) l else tm_sv d m f i p l)
    else if tm_k f i = 4 then (if p + 1 = tm_dp f i then !(tm_sv d m f i p l) else tm_sv d m f i p l)
    else if tm_k f i < 9 then (if p + 2 = tm_dp f i then tm_cb (tm_k f i) (tm_sv d m f i p l) (tm_sv d m f i (p + 1) l) else tm_sv d m f i p l)
    else (if p + 1 = tm_dp f i then tm_qt d (tm_k f i) (tm_a f i) (fun e => tm_sv d m f i p (tm_wt l (tm_a f i % 3) e)) else tm_sv d m f i p l)
def tm_bd (k : Nat) : Nat := if k = 0 then 2 else if k < 4 then 8 else if k = 11 then 5 else 2
/-- a token that is well formed -/
def tm_tk (k a : Int32) : Prop := ∃ kk : Nat, kk ≤ 11 ∧ k = nI kk ∧ (¬ (4 ≤ kk ∧ kk ≤ 8) → ∃ aa : Nat, a = nI aa ∧ aa ≤ tm_bd kk)
def tm_wf (f : tm_F) : Prop := f.1 ≤ 24 ∧ (∀ i, i < f.1 → tm_tk (f.2.1 i) (f.2.2 i) ∧ tm_tn (tm_k f i) ≤ tm_dp f i) ∧ tm_dp f f.1 = 1
/-- valid: for all lists -/
def tm_vd (d m : Nat) (f : tm_F) : Bool := tm_al (fun l => !tm_isl d l || tm_sv d m f f.1 0 l) 27
/-- all axioms but one are valid -/
def tm_ft (d na : Nat) (T : Nat → tm_F) (wo : Int32) (m : Nat) : Bool := tm_al (fun j => decide (nI j = wo) || tm_vd d m (T j)) na
def tm_mo (d na : Nat) (T : Nat → tm_F) (m : Nat) : Bool := decide (m < tm_NN d) && tm_ft d na T (-1) m
theorem tm_kE {f : tm_F} {i kk : Nat} (h : f.2.1 i = nI kk) (hk : kk ≤ 11) : tm_k f i = kk := by
  unfold tm_k; rw [h, nI_clamp (by omega)]
theorem tm_aE {f : tm_F} {i aa : Nat} (h : f.2.2 i = nI aa) (hk : aa ≤ 8) : tm_a f i = aa := by
  unfold tm_a; rw [h, nI_clamp (by omega)]
theorem tm_tn_le (k : Nat) : tm_tn k ≤ 2 := by unfold tm_tn; (repeat' split) <;> omega
theorem tm_dp_le (f : tm_F) (i : Nat) : tm_dp f i ≤ i := by
  induction i with
  | zero => exact Nat.le_refl 0
  | succ i ih => show tm_dp f i + 1 - _ ≤ i + 1; omega
/-- the depth is at most 12 -/
theorem tm_dp_12 {f : tm_F} (h : tm_wf f) {i : Nat} (hi : i ≤ f.1) : tm_dp f i ≤ 12 := by
  obtain ⟨h1, h2, h3⟩ := h
  have key : ∀ r i, i + r = f.1 → tm_dp f i ≤ 1 + r := by
    intro r
    induction r with
    | zero => intro i e; have : i = f.1 := by omega
              rw [this, h3]; omega
    | succ r ih =>
      intro i e
      have a := ih (i + 1) (by omega)
      have b := tm_tn_le (tm_k f i)
      have c : tm_dp f (i + 1) = tm_dp f i + 1 - tm_tn (tm_k f i) := rfl
      omega
  have a := key (f.1 - i) i (by omega)
  have b := tm_dp_le f i
  omega
/-- only the tokens themselves count -/
theorem tm_dp_congr {f g : tm_F} {n : Nat} (h : ∀ i, i < n → f.2.1 i = g.2.1 i) : ∀ i, i ≤ n → tm_dp f i = tm_dp g i := by
  intro i
  induction i with
  | zero => intro _; rfl
  | succ i ih =>
    intro hi
    show tm_dp f i + 1 - tm_tn (tm_k f i) = tm_dp g i + 1 - tm_tn (tm_k g i)
    unfold tm_k
    rw [ih (by omega), h i (by omega)]
theorem tm_wf_congr {f g : tm_F} (e : f.1 = g.1) (h : ∀ i, i < f.1 → f.2.1 i = g.2.1 i) (h2 : ∀ i, i < f.1 → f.2.2 i = g.2.2 i) (w : tm_wf f) : tm_wf g := by
  obtain ⟨w1, w2, w3⟩ := w
  refine ⟨by omega, fun i hi => ?_, ?_⟩
  · have a := w2 i (by omega)
    unfold tm_k at a ⊢
    rw [← h i (by omega), ← h2 i (by omega), ← tm_dp_congr h i (by omega)]
    exact a
  · rw [← tm_dp_congr h g.1 (by omega), ← e]
    exact w3
/-- a step of the depth, by the token taken -/
theorem tm_dp_s (f : tm_F) (i : Nat) : tm_dp f (i + 1) = tm_dp f i + 1 - tm_tn (tm_k f i) := rfl
theorem tm_sv_at {d m : Nat} {f : tm_F} {i p l : Nat} (h : tm_k f i < 4) : tm_sv d m f (i + 1) p l = if p = tm_dp f i then tm_at d m (tm_k f i) (tm_a f i) l else tm_sv d m f i p l := by
  show (if _ then _ else _) = _
  rw [if_pos h]
theorem tm_sv_not {d m : Nat} {f : tm_F} {i p l : Nat} (h : tm_k f i = 4) : tm_sv d m f (i + 1) p l = if p + 1 = tm_dp f i then !(tm_sv d m f i p l) else tm_sv d m f i p l := by
  show (if _ then _ else _) = _
  rw [if_neg (by omega), if_pos h]
theorem tm_sv_cb {d m : Nat} {f : tm_F} {i p l : Nat} (h : 5 ≤ tm_k f i) (h2 : tm_k f i < 9) : tm_sv d m f (i + 1) p l = if p + 2 = tm_dp f i then tm_cb (tm_k f i) (tm_sv d m f i p l) (tm_sv d m f i (p + 1) l) else tm_sv d m f i p l := by
  show (if _ then _ else _) = _
  rw [if_neg (by omega), if_neg (by omega), if_pos h2]
theorem tm_sv_qt {d m : Nat} {f : tm_F} {i p l : Nat} (h : 9 ≤ tm_k f i) : tm_sv d m f (i + 1) p l = if p + 1 = tm_dp f i then tm_qt d (tm_k f i) (tm_a f i) (fun e => tm_sv d m f i p (tm_wt l (tm_a f i % 3) e)) else tm_sv d m f i p l := by
  show (if _ then _ else _) = _
  rw [if_neg (by omega), if_neg (by omega), if_neg (by omega)]
theorem tm_tn_0 {k : Nat} (h : k < 4) : tm_tn k = 0 := by unfold tm_tn; rw [if_pos h]
theorem tm_tn_1 {k : Nat} (h : k = 4 ∨ 9 ≤ k) : tm_tn k = 1 := by unfold tm_tn; (repeat' split) <;> omega
theorem tm_tn_2 {k : Nat} (h : 5 ≤ k) (h2 : k < 9) : tm_tn k = 2 := by unfold tm_tn; (repeat' split) <;> omega
/-! lists of elements -/
theorem tm_isl_iff {d l : Nat} : tm_isl d l = true ↔ l < 27 ∧ l % 3 < d ∧ l / 3 % 3 < d ∧ l / 9 < d := by
  unfold tm_isl
  rw [Bool.and_eq_true, Bool.and_eq_true, Bool.and_eq_true, decide_eq_true_iff, decide_eq_true_iff, decide_eq_true_iff, decide_eq_true_iff]
theorem tm_el_lt {l v : Nat} (h : l < 27) : tm_el l v < 3 := by
  unfold tm_el; (repeat' split) <;> omega
theorem tm_el_d {d l v : Nat} (h : tm_isl d l = true) : tm_el l v < d := by
  rw [tm_isl_iff] at h
  unfold tm_el; (repeat' split) <;> omega
theorem tm_pl_el {l v : Nat} : tm_pl v * tm_el l v ≤ l := by
  unfold tm_pl tm_el; (repeat' split) <;> omega
theorem tm_wt_lt {l v e : Nat} (h : l < 27) (he : e < 3) : tm_wt l v e < 27 := by
  unfold tm_wt tm_pl tm_el; (repeat' split) <;> omega
theorem tm_wt_isl {d l v e : Nat} (h : tm_isl d l = true) (he : e < d) (hd : d ≤ 3) : tm_isl d (tm_wt l v e) = true := by
  rw [tm_isl_iff] at h ⊢
  unfold tm_wt tm_pl tm_el; (repeat' split) <;> omega
theorem tm_wt_el {l v e w : Nat} (h : l < 27) (he : e < 3) (hv : v < 3) (hw : w < 3) : tm_el (tm_wt l v e) w = if w = v then e else tm_el l w := by
  unfold tm_wt tm_pl tm_el; (repeat' split) <;> omega
/-- valid or not -/
theorem tm_vd_iff {d m : Nat} {f : tm_F} : tm_vd d m f = true ↔ ∀ l, tm_isl d l = true → tm_sv d m f f.1 0 l = true := by
  unfold tm_vd
  rw [tm_al_iff]
  constructor
  · intro h l hl
    have a := h l (tm_isl_iff.mp hl).1
    rw [hl] at a
    exact a
  · intro h l _
    cases e : tm_isl d l
    · rfl
    · rw [h l e]; rfl
theorem tm_ft_iff {d na : Nat} {T : Nat → tm_F} {wo : Int32} {m : Nat} : tm_ft d na T wo m = true ↔ ∀ j, j < na → nI j ≠ wo → tm_vd d m (T j) = true := by
  unfold tm_ft
  rw [tm_al_iff]
  constructor
  · intro h j hj hw
    have a := h j hj
    rw [decide_eq_false hw, Bool.false_or] at a
    exact a
  · intro h j hj
    by_cases e : nI j = wo
    · rw [decide_eq_true e, Bool.true_or]
    · rw [h j hj e, Bool.or_true]
theorem tm_NN_1 : tm_NN 1 = 4 := rfl
theorem tm_NN_2 : tm_NN 2 = 64 := rfl
theorem tm_NN_3 : tm_NN 3 = 4096 := rfl
theorem tm_NN_le {d : Nat} (h : d ≤ 3) : tm_NN d ≤ 4096 := by
  have : d = 0 ∨ d = 1 ∨ d = 2 ∨ d = 3 := by omega
  rcases this with rfl | rfl | rfl | rfl <;> decide
theorem tm_d3 {d : Nat} {P : Nat → Prop} (h1 : 1 ≤ d) (h3 : d ≤ 3) (a : P 1) (b : P 2) (c : P 3) : P d := by
  have : d = 1 ∨ d = 2 ∨ d = 3 := by omega
  rcases this with rfl | rfl | rfl
  · exact a
  · exact b
  · exact c
end
section
/-! reachability; digits of 64 * part + b -/
theorem tm_rc_0 {d m e : Nat} : tm_rc d m e e = true := by
  unfold tm_rc; rw [decide_eq_true rfl, Bool.true_or]
theorem tm_rc_1 {d m e f : Nat} (h : tm_rl d m e f = true) : tm_rc d m e f = true := by
  unfold tm_rc; rw [h, Bool.true_or, Bool.or_true]
theorem tm_rc_2 {d m e f x : Nat} (hx : x < d) (h : tm_rl d m e x = true) (h2 : tm_rl d m x f = true) : tm_rc d m e f = true := by
  unfold tm_rc
  rw [(tm_an_iff (fun x => tm_rl d m e x && tm_rl d m x f) d).mpr ⟨x, hx, by rw [h, h2]; rfl⟩, Bool.or_true, Bool.or_true]
theorem tm_rc_c {d m e f : Nat} (h : tm_rc d m e f = true) : e = f ∨ tm_rl d m e f = true ∨ ∃ x, x < d ∧ tm_rl d m e x = true ∧ tm_rl d m x f = true := by
  unfold tm_rc at h
  rw [Bool.or_eq_true, Bool.or_eq_true, tm_an_iff, decide_eq_true_iff] at h
  rcases h with h | h | ⟨x, hx, h⟩
  · exact Or.inl h
  · exact Or.inr (Or.inl h)
  · rw [Bool.and_eq_true] at h
    exact Or.inr (Or.inr ⟨x, hx, h.1, h.2⟩)
theorem tm_rc_step {d m e x y : Nat} (hd : d ≤ 3) (he : e < d) (hx : x < d) (hy : y < d) (h : tm_rc d m e x = true) (h2 : tm_rl d m x y = true) : tm_rc d m e y = true := by
  rcases tm_rc_c h with h | h | ⟨z, hz, h1, h3⟩
  · subst h; exact tm_rc_1 h2
  · exact tm_rc_2 hx h h2
  · by_cases a : e = y
    · subst a; exact tm_rc_0
    by_cases b : z = e
    · subst b; exact tm_rc_2 hx h3 h2
    by_cases c : z = x
    · subst c; exact tm_rc_2 hx h1 h2
    by_cases g : z = y
    · subst g; exact tm_rc_1 h1
    by_cases p : x = e
    · subst p; exact tm_rc_1 h2
    by_cases q : x = y
    · subst q; exact tm_rc_2 hz h1 h3
    omega
theorem tm_rc_tr {d m e x y : Nat} (hd : d ≤ 3) (he : e < d) (hx : x < d) (hy : y < d) (h : tm_rc d m e x = true) (h2 : tm_rc d m x y = true) : tm_rc d m e y = true := by
  rcases tm_rc_c h2 with a | a | ⟨z, hz, h1, h3⟩
  · subst a; exact h
  · exact tm_rc_step hd he hx hy h a
  · exact tm_rc_step hd he hz hy (tm_rc_step hd he hx hz h h1) h3
theorem tm_bt_lo {part b i : Nat} (hb : b < 64) (hi : i < 6) : (64 * part + b).testBit i = b.testBit i := by
  have := Nat.testBit_two_pow_mul_add part (show b < 2 ^ 6 from hb) i
  rw [if_pos hi] at this
  exact this
theorem tm_bt_hi {part b i : Nat} (hb : b < 64) (hi : 6 ≤ i) : (64 * part + b).testBit i = part.testBit (i - 6) := by
  have := Nat.testBit_two_pow_mul_add part (show b < 2 ^ 6 from hb) i
  rw [if_neg (by omega)] at this
  exact this
theorem tm_dg0 : ∀ b, b < 64 → nb_b (-6148914691236517206) b = b.testBit 0 := by decide +kernel
theorem tm_dg1 : ∀ b, b < 64 → nb_b (-3689348814741910324) b = b.testBit 1 := by decide +kernel
theorem tm_dg2 : ∀ b, b < 64 → nb_b (-1085102592571150096) b = b.testBit 2 := by decide +kernel
theorem tm_dg3 : ∀ b, b < 64 → nb_b (-71777214294589696) b = b.testBit 3 := by decide +kernel
theorem tm_dg4 : ∀ b, b < 64 → nb_b (-281470681808896) b = b.testBit 4 := by decide +kernel
theorem tm_dg5 : ∀ b, b < 64 → nb_b (-4294967296) b = b.testBit 5 := by decide +kernel
/-- which of the interpretations of a part have a digit -/
theorem xw_digit {post : Int64 → Prop} {dg part : Nat} (h : dg < 12) (hp : part < 64) (K : ∀ r, (∀ b, b < 64 → nb_b r b = (64 * part + b).testBit dg) → post r) : wpX_withDigit post (nI dg) (nI part) := by
  unfold wpX_withDigit
  refine br_f (nI_pos (by omega)) (pk_lt 5 dg (fun h5 => ?_) (fun h5 => ?_))
  · have e : nI dg - 6 = nI (dg - 6) := pk_sub (b := 6) (by omega)
    rw [e, nb_m part (by omega)]
    refine br_c (fun c => K _ (fun b hb => ?_)) (fun c => K _ (fun b hb => ?_))
    · rw [nb_m1 b hb, tm_bt_hi hb (by omega), nb_o1.mp c]
    · rw [nb_0, tm_bt_hi hb (by omega)]
      cases z : part.testBit (dg - 6)
      · rfl
      · exact absurd (nb_o1.mpr z) c
  · refine pk_eq dg 0 (fun z => ?_) (fun z0 => pk_eq dg 1 (fun z => ?_) (fun z1 => pk_eq dg 2 (fun z => ?_) (fun z2 => pk_eq dg 3 (fun z => ?_) (fun z3 => pk_eq dg 4 (fun z => ?_) (fun z4 => pk_eq dg 5 (fun z => ?_) (fun z5 => trivial))))))
    all_goals subst z
    · exact K _ (fun b hb => by rw [tm_bt_lo hb (by omega), tm_dg0 b hb])
    · exact K _ (fun b hb => by rw [tm_bt_lo hb (by omega), tm_dg1 b hb])
    · exact K _ (fun b hb => by rw [tm_bt_lo hb (by omega), tm_dg2 b hb])
    · exact K _ (fun b hb => by rw [tm_bt_lo hb (by omega), tm_dg3 b hb])
    · exact K _ (fun b hb => by rw [tm_bt_lo hb (by omega), tm_dg4 b hb])
    · exact K _ (fun b hb => by rw [tm_bt_lo hb (by omega), tm_dg5 b hb])
end
section
/-! the component's small functions -/
theorem xi_in {a b N : Nat} (h : a + b < N) (hN : N < 2 ^ 31) : vp_in (nI a + nI b) N := by rw [nI_add]; exact vp_in_nI h hN
theorem xi_cl {a b : Nat} (h : a + b < 2 ^ 31) : (nI a + nI b).toNatClampNeg = a + b := by rw [nI_add, nI_clamp h]
theorem xi_3 (e f : Nat) : (3 : Int32) * nI e + nI f = nI (3 * e + f) := by
  have h : (3 : Int32) * nI e = nI (3 * e) := pk_mul 3 e
  rw [h, nI_add]
theorem xi_24 (e f : Nat) : (24 : Int32) * nI e + nI f = nI (24 * e + f) := by
  have h : (24 : Int32) * nI e = nI (24 * e) := pk_mul 24 e
  rw [h, nI_add]
theorem tm_ct_0 {g : Nat → Bool} {n : Nat} (h : tm_ct g n = 0) : ∀ i, i < n → g i = false := by
  induction n with
  | zero => intro i hi; omega
  | succ n ih =>
    have e : tm_ct g n + (g n).toNat = 0 := h
    intro i hi
    rcases Nat.lt_or_ge i n with z | z
    · exact ih (by omega) i z
    · have : i = n := by omega
      subst this
      cases c : g i
      · rfl
      · rw [c] at e
        have e' : tm_ct g i + 1 = 0 := e
        omega
theorem xw_ones_lp {post : Int32 → Prop} {tot : Nat} (hp : post (nI tot)) (ht : tot ≤ 64) : ∀ (r i : Nat) (x : Int64), i + r = tot → r = tm_ct (nb_b x) 64 → wX_ones_7 post (r + 1) (nI i) x (nI i) := by
  intro r
  induction r with
  | zero =>
    intro i x h1 h2
    have hx : x = 0 := nb_z.mpr (tm_ct_0 h2.symm)
    have e : i = tot := by omega
    subst e
    exact br_c (fun _ => hp) (fun _ => br_t hx hp)
  | succ r ih =>
    intro i x h1 h2
    have hx : ¬ x = 0 := by
      intro z
      subst z
      rw [nb_pop0] at h2
      omega
    have hc := nb_pop hx
    exact br_f (nI_ge (b := 64) (by omega) (by decide)) (br_f hx (nm_e (nm_r (nI_1 i) (nm_r (nI_1 i) (ih (i + 1) _ (by omega) (by omega))))))
theorem xw_ones {post : Int32 → Prop} {x : Int64} (hp : post (nI (tm_ct (nb_b x) 64))) : wpX_ones post x :=
  ⟨_, xw_ones_lp hp (tm_ct_le _ _) _ 0 x (Nat.zero_add _) rfl⟩
theorem xw_low_lp {post : Int32 → Prop} {x : Int64} {j : Nat} (hj : j < 64) (hb : nb_b x j = true) (hl : ∀ i, i < j → nb_b x i = false) (hp : post (nI j)) : ∀ r i : Nat, i + r = j → wX_lowest_2 post x (r + 1) (nI i) := by
  intro r
  induction r with
  | zero =>
    intro i h
    have e : i = j := by omega
    subst e
    exact br_f (nI_ge (b := 64) (by omega) (by decide)) (br_t ((nb_lo x hj).mpr hb) hp)
  | succ r ih =>
    intro i h
    have hn : ¬ ((x.toUInt64 >>> ((nI i).toInt64.toUInt64 &&& Int64.toUInt64 63)).toInt64 &&& 1) = 1 := by
      intro c
      have a := (nb_lo x (show i < 64 by omega)).mp c
      rw [hl i (by omega)] at a
      exact nomatch a
    exact br_f (nI_ge (b := 64) (by omega) (by decide)) (br_f hn (nm_r (nI_1 i) (ih (i + 1) (by omega))))
theorem xw_low {post : Int32 → Prop} {x : Int64} {j : Nat} (hj : j < 64) (hb : nb_b x j = true) (hl : ∀ i, i < j → nb_b x i = false) (hp : post (nI j)) : wpX_lowest post x :=
  ⟨_, xw_low_lp hj hb hl hp j 0 (Nat.zero_add j)⟩
theorem xw_NN {d : Nat} (h1 : 1 ≤ d) (h3 : d ≤ 3) : (1 : Int32) <<< ((nI d + nI d * nI d) &&& 31) = nI (tm_NN d) := by
  refine tm_d3 (P := fun d => (1 : Int32) <<< ((nI d + nI d * nI d) &&& 31) = nI (tm_NN d)) h1 h3 ?_ ?_ ?_ <;> decide +kernel
theorem xw_dd (d : Nat) : nI d + nI d * nI d = nI (d + d * d) := by rw [pk_mul, nI_add]
theorem tm_NN_b {d : Nat} (h : d ≤ 3) : tm_NN d < 2 ^ 31 := Nat.lt_of_le_of_lt (tm_NN_le h) (by decide)
def tm_mp (d : Nat) : Nat := if d = 1 then 1 else if d = 2 then 2 else 6
def tm_pt (d : Nat) : Nat := if d = 3 then 64 else 1
section
variable {fh fa fe fk fs fd : Int32} {kd ag st ln al : Nat → Int32} {mb : Nat → Int64} {im : Nat → Int32} {pr rl rc tb fr hel : Nat → Int64}
theorem xw_int {post : Int32 → Prop} {d : Nat} (h1 : 1 ≤ d) (h3 : d ≤ 3) (K : post (nI (tm_NN d))) : wpX_interpretations post (fh, fa, nI d, fk, fs, fd, kd, ag, st, ln, al, mb, im, pr, rl, rc, tb, fr, hel) := by
  show post ((1 : Int32) <<< ((nI d + nI d * nI d) &&& 31))
  rw [xw_NN h1 h3]
  exact K
theorem xw_num_y {post : Int32 → Prop} {d m : Nat} (h1 : 1 ≤ d) (h3 : d ≤ 3) (hm : m < tm_NN d) (K : post 1) : wpX_isNumber post (fh, fa, nI d, fk, fs, fd, kd, ag, st, ln, al, mb, im, pr, rl, rc, tb, fr, hel) (nI m) := by
  have hN := tm_NN_b h3
  exact br_f (nI_pos (by omega)) (xw_int h1 h3 (br_f (nI_ge hm hN) K))
theorem xw_num_n {post : Int32 → Prop} {d : Nat} {x : Int32} (h1 : 1 ≤ d) (h3 : d ≤ 3) (hm : x < 0 ∨ nI (tm_NN d) ≤ x) (K : post 0) : wpX_isNumber post (fh, fa, nI d, fk, fs, fd, kd, ag, st, ln, al, mb, im, pr, rl, rc, tb, fr, hel) x := by
  refine br_c (fun _ => K) (fun hx => xw_int h1 h3 (br_t (hm.resolve_left hx) K))
theorem xw_maps {post : Int32 → Prop} {d : Nat} (h3 : d ≤ 3) (K : post (nI (tm_mp d))) : wpX_mapsOf post (nI d) := by
  unfold tm_mp at K
  refine pk_eq d 1 (fun h => ?_) (fun h => pk_eq d 2 (fun g => ?_) (fun g => ?_))
  · rw [if_pos h] at K; exact K
  · rw [if_neg h, if_pos g] at K; exact K
  · rw [if_neg h, if_neg g] at K; exact K
theorem xw_parts {post : Int32 → Prop} {d : Nat} (h3 : d ≤ 3) (K : post (nI (tm_pt d))) : wpX_partsOf post (nI d) := by
  unfold tm_pt at K
  refine pk_eq d 3 (fun h => ?_) (fun h => ?_)
  · rw [if_pos h] at K; exact K
  · rw [if_neg h] at K; exact K
/-- which bits of a part stand for interpretations -/
theorem xw_whole {post : Int64 → Prop} {d part : Nat} (h1 : 1 ≤ d) (h3 : d ≤ 3) (hp : part < tm_pt d) (K : ∀ r, (∀ b, b < 64 → nb_b r b = decide (64 * part + b < tm_NN d)) → post r) : wpX_wholePart post (nI d) := by
  refine pk_eq d 1 (fun h => K _ (fun b hb => ?_)) (fun h => K _ (fun b hb => ?_))
  · subst h
    have : part = 0 := by
      have e : tm_pt 1 = 1 := rfl
      omega
    subst this
    rw [nb_15 b hb, tm_NN_1, Nat.mul_zero, Nat.zero_add]
  · rw [nb_m1 b hb]
    refine (decide_eq_true ?_).symm
    have : d = 2 ∨ d = 3 := by omega
    rcases this with rfl | rfl
    · have e : tm_pt 2 = 1 := rfl
      rw [tm_NN_2]; omega
    · have e : tm_pt 3 = 64 := rfl
      rw [tm_NN_3]; omega
theorem xw_taken {post : Int32 → Prop} {kk : Nat} (h : kk ≤ 11) (hp : post (nI (tm_tn kk))) : wpX_taken post (nI kk) := by
  refine pk_lt 3 kk (fun h3 => pk_eq kk 4 (fun h4 => ?_) (fun h4 => pk_lt kk 9 (fun h9 => ?_) (fun h9 => ?_))) (fun h3 => ?_)
  · rw [tm_tn_1 (Or.inl h4)] at hp; exact hp
  · rw [tm_tn_2 (by omega) h9] at hp; exact hp
  · rw [tm_tn_1 (Or.inr h9)] at hp; exact hp
  · rw [tm_tn_0 (by omega)] at hp; exact hp
theorem xi_r3 {l : Nat} (h : l < 2 ^ 31) : nI l - nI l / 3 * 3 = nI (l % 3) := pk_rem (d := 3) h (by decide) (by decide)
theorem xi_d3 {l : Nat} (h : l < 2 ^ 31) : nI l / 3 = nI (l / 3) := pk_div (d := 3) h (by decide) (by decide)
theorem xi_d9 {l : Nat} (h : l < 2 ^ 31) : nI l / 9 = nI (l / 9) := pk_div (d := 9) h (by decide) (by decide)
theorem xi_n3 : ¬ (3 : Int32) = 0 := by decide
theorem xi_n9 : ¬ (9 : Int32) = 0 := by decide
theorem xi_n2 : ¬ (2 : Int32) = 0 := by decide
theorem xw_el {post : Int32 → Prop} {l v : Nat} (hl : l < 27) (hv : v < 3) (K : post (nI (tm_el l v))) : wpX_elementIn post (nI l) (nI v) := by
  unfold tm_el at K
  unfold wpX_elementIn
  rw [xi_r3 (by omega), xi_d3 (by omega), xi_r3 (by omega), xi_d9 (by omega)]
  refine pk_eq v 0 (fun h => ⟨xi_n3, ?_⟩) (fun h => pk_eq v 1 (fun g => ⟨xi_n3, xi_n3, ?_⟩) (fun g => ⟨xi_n9, ?_⟩))
  · rw [if_pos h] at K; exact K
  · rw [if_neg h, if_pos g] at K; exact K
  · rw [if_neg h, if_neg g] at K; exact K
theorem xw_place {post : Int32 → Prop} {v : Nat} (hv : v < 3) (K : post (nI (tm_pl v))) : wpX_placeOf post (nI v) := by
  unfold tm_pl at K
  refine pk_eq v 0 (fun h => ?_) (fun h => pk_eq v 1 (fun g => ?_) (fun g => ?_))
  · rw [if_pos h] at K; exact K
  · rw [if_neg h, if_pos g] at K; exact K
  · rw [if_neg h, if_neg g] at K; exact K
theorem tm_isl_t {d l : Nat} (h0 : l < 27) (h1 : l % 3 < d) (h2 : l / 3 % 3 < d) (h3 : l / 9 < d) : tm_isl d l = true := tm_isl_iff.mpr ⟨h0, h1, h2, h3⟩
theorem tm_isl_f {d l : Nat} (h : ¬ (l < 27 ∧ l % 3 < d ∧ l / 3 % 3 < d ∧ l / 9 < d)) : tm_isl d l = false := by
  cases e : tm_isl d l
  · rfl
  · exact absurd (tm_isl_iff.mp e) h
theorem xw_isl {post : Int32 → Prop} {d l : Nat} (hd : d ≤ 3) (hl : l < 27) (K1 : tm_isl d l = true → post 1) (K0 : tm_isl d l = false → post 0) : wpX_isList post (fh, fa, fe, fk, nI d, fd, kd, ag, st, ln, al, mb, im, pr, rl, rc, tb, fr, hel) (nI l) := by
  unfold wpX_isList
  dsimp only
  rw [xi_r3 (by omega), xi_d3 (by omega), xi_r3 (by omega), xi_d9 (by omega)]
  refine ⟨xi_n3, pk_le d (l % 3) (fun h => K0 (tm_isl_f (by omega))) (fun h => ⟨xi_n3, xi_n3, pk_le d (l / 3 % 3) (fun g => K0 (tm_isl_f (by omega))) (fun g => ⟨xi_n9, pk_le d (l / 9) (fun q => K0 (tm_isl_f (by omega))) (fun q => K1 (tm_isl_t hl h g q))⟩)⟩)⟩
/-- property, relation and reachability of a part as laid -/
def xw_LP (d part : Nat) (pr rl rc : Nat → Int64) : Prop :=
  (∀ e, e < d → ∀ b, b < 64 → nb_b (pr e) b = (64 * part + b).testBit e) ∧
  (∀ e f, e < d → f < d → ∀ b, b < 64 → nb_b (rl (3 * e + f)) b = tm_rl d (64 * part + b) e f) ∧
  (∀ e f, e < d → f < d → ∀ b, b < 64 → nb_b (rc (3 * e + f)) b = tm_rc d (64 * part + b) e f)
def tm_av (d m k e f : Nat) : Bool := if k = 0 then m.testBit e else if k = 1 then tm_rl d m e f else if k = 2 then decide (e = f) else tm_rc d m e f
theorem xw_atom {post : Int64 → Prop} {d part k e f : Nat} (hd : d ≤ 3) (L : xw_LP d part pr rl rc) (hk : k < 4) (he : e < d) (hf : f < d)
    (K : ∀ r, (∀ b, b < 64 → nb_b r b = tm_av d (64 * part + b) k e f) → post r) : wpX_atom post (fh, fa, fe, fk, nI d, fd, kd, ag, st, ln, al, mb, im, pr, rl, rc, tb, fr, hel) (nI k) (nI e) (nI f) := by
  obtain ⟨L1, L2, L3⟩ := L
  unfold wpX_atom
  dsimp only
  rw [xi_3, nI_clamp (show 3 * e + f < 2 ^ 31 by omega), nI_clamp (show e < 2 ^ 31 by omega)]
  have h9 : vp_in (nI (3 * e + f)) 9 := vp_in_nI (by omega) (by decide)
  refine br_f (nI_pos (by omega)) (pk_lt 2 k (fun h2 => ⟨h9, K _ (fun b hb => ?_)⟩) (fun h2 => pk_eq k 0 (fun z => ⟨vp_in_nI (by omega) (by decide), K _ (fun b hb => ?_)⟩) (fun z0 => pk_eq k 1 (fun z => ⟨h9, K _ (fun b hb => ?_)⟩) (fun z1 => pk_eq k 2 (fun z => pk_eq e f (fun ef => K _ (fun b hb => ?_)) (fun ef => K _ (fun b hb => ?_))) (fun z2 => trivial)))))
  all_goals unfold tm_av
  · rw [if_neg (by omega), if_neg (by omega), if_neg (by omega)]; exact L3 e f he hf b hb
  · rw [if_pos z]; exact L1 e he b hb
  · rw [if_neg z0, if_pos z]; exact L2 e f he hf b hb
  · rw [if_neg z0, if_neg z1, if_pos z, decide_eq_true ef]; exact nb_m1 b hb
  · rw [if_neg z0, if_neg z1, if_pos z, decide_eq_false ef]; exact nb_0 b
end
end
section
/-! layPart: property, relation, reachability of 64 interpretations -/
/-- pairs ahead of (e, f) are laid -/
def xw_L1 (d part e f : Nat) (rl rc : Nat → Int64) : Prop := ∀ e' f', e' < d → f' < d → (e' < e ∨ (e' = e ∧ f' < f)) → ∀ b, b < 64 →
  nb_b (rl (3 * e' + f')) b = tm_rl d (64 * part + b) e' f' ∧ nb_b (rc (3 * e' + f')) b = (decide (e' = f') || tm_rl d (64 * part + b) e' f')
def xw_L0 (part e : Nat) (pr : Nat → Int64) : Prop := ∀ e', e' < e → ∀ b, b < 64 → nb_b (pr e') b = (64 * part + b).testBit e'
/-- Warshall: the pairs ahead of (o, ee, ff) are closed -/
def xw_W (d part o ee ff : Nat) (rc : Nat → Int64) : Prop := ∀ e f, e < d → f < d → ∀ b, b < 64 →
  (nb_b (rc (3 * e + f)) b = true → tm_rc d (64 * part + b) e f = true) ∧
  ((e = f ∨ tm_rl d (64 * part + b) e f = true) → nb_b (rc (3 * e + f)) b = true) ∧
  (∀ x, x < d → tm_rl d (64 * part + b) e x = true → tm_rl d (64 * part + b) x f = true → (x < o ∨ (x = o ∧ (e < ee ∨ (e = ee ∧ f < ff)))) → nb_b (rc (3 * e + f)) b = true)
theorem xw_W_step {d part o ee ff : Nat} {rc : Nat → Int64} (hd : d ≤ 3) (ho : o < d) (he : ee < d) (hf : ff < d) (h : xw_W d part o ee ff rc) :
    xw_W d part o ee (ff + 1) (vp_updL rc (3 * ee + ff) (rc (3 * ee + ff) ||| (rc (3 * ee + o) &&& rc (3 * o + ff)))) := by
  intro e f h1 h2 b hb
  obtain ⟨a1, a2, a3⟩ := h e f h1 h2 b hb
  by_cases z : e = ee ∧ f = ff
  · obtain ⟨rfl, rfl⟩ := z
    rw [pk_uLs, nb_or, nb_and]
    obtain ⟨c1, c2, _⟩ := h e o h1 ho b hb
    obtain ⟨d1, d2, _⟩ := h o f ho h2 b hb
    refine ⟨fun g => ?_, fun g => ?_, fun x hx g1 g2 g3 => ?_⟩
    · rw [Bool.or_eq_true, Bool.and_eq_true] at g
      rcases g with g | g
      · exact a1 g
      · exact tm_rc_tr hd h1 ho h2 (c1 g.1) (d1 g.2)
    · rw [a2 g]; rfl
    · by_cases y : x = o
      · subst y
        rw [c2 (Or.inr g1), d2 (Or.inr g2)]
        exact Bool.or_true _
      · rw [a3 x hx g1 g2 (by omega)]; rfl
  · rw [pk_uLn (by omega)]
    exact ⟨a1, a2, fun x hx g1 g2 g3 => a3 x hx g1 g2 (by omega)⟩
theorem xw_W_mono {d part o ee ff o' ee' ff' : Nat} {rc : Nat → Int64} (h : xw_W d part o ee ff rc) (hm : ∀ x e f, x < d → e < d → f < d → (x < o' ∨ (x = o' ∧ (e < ee' ∨ (e = ee' ∧ f < ff')))) → (x < o ∨ (x = o ∧ (e < ee ∨ (e = ee ∧ f < ff))))) : xw_W d part o' ee' ff' rc := by
  intro e f h1 h2 b hb
  obtain ⟨a1, a2, a3⟩ := h e f h1 h2 b hb
  exact ⟨a1, a2, fun x hx g1 g2 g3 => a3 x hx g1 g2 (hm x e f hx h1 h2 g3)⟩
section
variable {fh fa fe fk fs fd : Int32} {kd ag st ln al : Nat → Int32} {mb : Nat → Int64} {im : Nat → Int32} {pr rl rc tb fr hel : Nat → Int64}
theorem xw_close_12 {post : SX → Prop} {J : Int32 → (Nat → Int32) → (Nat → Int32) → (Nat → Int32) → (Nat → Int32) → (Nat → Int32) → (Nat → Int64) → (Nat → Int32) → (Nat → Int64) → (Nat → Int64) → (Nat → Int64) → (Nat → Int64) → (Nat → Int64) → (Nat → Int64) → Prop} {d part o ee : Nat} (hd : d ≤ 3) (ho : o < d) (he : ee < d)
    (K : ∀ rc, xw_W d part o ee d rc → J (nI (ee + 1)) kd ag st ln al mb im pr rl rc tb fr hel) : ∀ (r ff : Nat) (rc : Nat → Int64), ff + r = d → xw_W d part o ee ff rc → wX_closeOver_12 post J (nI o) (nI ee) fh fa fe fk (nI d) fd (r + 1) (nI ff) kd ag st ln al mb im pr rl rc tb fr hel := by
  intro r
  induction r with
  | zero =>
    intro ff rc h w
    have e : ff = d := by omega
    subst e
    exact br_t (nI_le (Nat.le_refl _) (by omega)) (nm_r (nI_1 ee) (K rc w))
  | succ r ih =>
    intro ff rc h w
    have hs := xw_W_step hd ho he (show ff < d by omega) w
    refine br_f (nI_ge (by omega) (by omega)) ?_
    rw [xi_3, xi_3, xi_3, nI_clamp (show 3 * ee + ff < 2 ^ 31 by omega), nI_clamp (show 3 * ee + o < 2 ^ 31 by omega), nI_clamp (show 3 * o + ff < 2 ^ 31 by omega)]
    exact ⟨vp_in_nI (by omega) (by decide), vp_in_nI (by omega) (by decide), vp_in_nI (by omega) (by decide), vp_in_nI (by omega) (by decide), nm_e (nm_r (nI_1 ff) (ih (ff + 1) _ (by omega) hs))⟩
theorem xw_close_2 {post : SX → Prop} {d part o : Nat} (hd : d ≤ 3) (ho : o < d) (K : ∀ rc, xw_W d part (o + 1) 0 0 rc → post (fh, fa, fe, fk, nI d, fd, kd, ag, st, ln, al, mb, im, pr, rl, rc, tb, fr, hel)) : ∀ (r ee : Nat) (rc : Nat → Int64), ee + r = d → xw_W d part o ee 0 rc → wX_closeOver_2 post (nI o) fh fa fe fk (nI d) fd (r + 1) (nI ee) kd ag st ln al mb im pr rl rc tb fr hel := by
  intro r
  induction r with
  | zero =>
    intro ee rc h w
    have e : ee = d := by omega
    subst e
    exact br_t (nI_le (Nat.le_refl _) (by omega)) (K rc (xw_W_mono w (by omega)))
  | succ r ih =>
    intro ee rc h w
    exact br_f (nI_ge (by omega) (by omega)) ⟨d + 1, xw_close_12 hd ho (by omega) (fun rc' w' => ih (ee + 1) rc' (by omega) (xw_W_mono w' (by omega))) d 0 rc (by omega) w⟩
theorem xw_close {post : SX → Prop} {d part o : Nat} (hd : d ≤ 3) (ho : o < d) (w : xw_W d part o 0 0 rc) (K : ∀ rc, xw_W d part (o + 1) 0 0 rc → post (fh, fa, fe, fk, nI d, fd, kd, ag, st, ln, al, mb, im, pr, rl, rc, tb, fr, hel)) : wpX_closeOver post (fh, fa, fe, fk, nI d, fd, kd, ag, st, ln, al, mb, im, pr, rl, rc, tb, fr, hel) (nI o) :=
  ⟨d + 1, xw_close_2 hd ho K d 0 rc (by omega) w⟩
theorem xw_lay_103 {post : SX → Prop} {d part : Nat} (hd : d ≤ 3) (K : ∀ rc, xw_W d part d 0 0 rc → post (fh, fa, fe, fk, nI d, fd, kd, ag, st, ln, al, mb, im, pr, rl, rc, tb, fr, hel)) : ∀ (r o : Nat) (rc : Nat → Int64), o + r = d → xw_W d part o 0 0 rc → wX_layPart_103 post (nI d) (r + 1) (nI o) fh fa fe fk (nI d) fd kd ag st ln al mb im pr rl rc tb fr hel := by
  intro r
  induction r with
  | zero =>
    intro o rc h w
    have e : o = d := by omega
    subst e
    exact br_t (nI_le (Nat.le_refl _) (by omega)) (K rc w)
  | succ r ih =>
    intro o rc h w
    exact br_f (nI_ge (by omega) (by omega)) (xw_close hd (by omega) w (fun rc' w' => nm_r (nI_1 o) (ih (o + 1) rc' (by omega) w')))
theorem xw_lay_26 {post : SX → Prop} {J : Int32 → (Nat → Int32) → (Nat → Int32) → (Nat → Int32) → (Nat → Int32) → (Nat → Int32) → (Nat → Int64) → (Nat → Int32) → (Nat → Int64) → (Nat → Int64) → (Nat → Int64) → (Nat → Int64) → (Nat → Int64) → (Nat → Int64) → Prop} {d part e : Nat} (hd : d ≤ 3) (hp : part < 64) (he : e < d)
    (K : ∀ rl rc, xw_L1 d part e d rl rc → J (nI (e + 1)) kd ag st ln al mb im pr rl rc tb fr hel) : ∀ (r f : Nat) (rl rc : Nat → Int64), f + r = d → xw_L1 d part e f rl rc → wX_layPart_26 post J (nI d) (nI part) (nI e) fh fa fe fk (nI d) fd (r + 1) (nI f) kd ag st ln al mb im pr rl rc tb fr hel := by
  intro r
  induction r with
  | zero =>
    intro f rl rc h w
    have e : f = d := by omega
    subst e
    exact br_t (nI_le (Nat.le_refl _) (by omega)) (nm_r (nI_1 _) (K rl rc w))
  | succ r ih =>
    intro f rl rc h w
    refine br_f (nI_ge (by omega) (by omega)) ?_
    have hde : d * e ≤ 6 := by
      have := Nat.mul_le_mul hd (show e ≤ 2 by omega)
      omega
    have hde2 : d + d * e + f < 12 := by
      have : d = 1 ∨ d = 2 ∨ d = 3 := by omega
      rcases this with rfl | rfl | rfl <;> omega
    have ei : nI d + nI d * nI e + nI f = nI (d + d * e + f) := by rw [pk_mul, nI_add, nI_add]
    rw [ei]
    refine xw_digit hde2 hp (fun q hq => ?_)
    rw [xi_3, nI_clamp (show 3 * e + f < 2 ^ 31 by omega)]
    have h9 : vp_in (nI (3 * e + f)) 9 := vp_in_nI (by omega) (by decide)
    refine ⟨h9, nm_e (pk_eq e f (fun z => ⟨h9, nm_e (nm_r (nI_1 f) (ih (f + 1) _ _ (by omega) ?_))⟩) (fun z => ⟨h9, h9, nm_e (nm_r (nI_1 f) (ih (f + 1) _ _ (by omega) ?_))⟩))⟩
    · intro e' f' g1 g2 g3 b hb
      by_cases y : e' = e ∧ f' = f
      · obtain ⟨rfl, rfl⟩ := y
        rw [pk_uLs, pk_uLs, nb_m1 b hb, decide_eq_true z]
        exact ⟨hq b hb, rfl⟩
      · rw [pk_uLn (by omega), pk_uLn (by omega)]
        exact w e' f' g1 g2 (by omega) b hb
    · intro e' f' g1 g2 g3 b hb
      by_cases y : e' = e ∧ f' = f
      · obtain ⟨rfl, rfl⟩ := y
        rw [pk_uLs, pk_uLs, decide_eq_false z]
        exact ⟨hq b hb, hq b hb⟩
      · rw [pk_uLn (by omega), pk_uLn (by omega)]
        exact w e' f' g1 g2 (by omega) b hb
theorem xw_lay_7 {post : SX → Prop} {d part : Nat} (hd : d ≤ 3) (hp : part < 64) (K : ∀ pr rl rc, xw_LP d part pr rl rc → post (fh, fa, fe, fk, nI d, fd, kd, ag, st, ln, al, mb, im, pr, rl, rc, tb, fr, hel)) : ∀ (r e : Nat) (pr rl rc : Nat → Int64), e + r = d → xw_L0 part e pr → xw_L1 d part e 0 rl rc → wX_layPart_7 post (nI d) (nI part) fh fa fe fk (nI d) fd (r + 1) (nI e) kd ag st ln al mb im pr rl rc tb fr hel := by
  intro r
  induction r with
  | zero =>
    intro e pr rl rc h w0 w1
    have z : e = d := by omega
    subst z
    refine br_t (nI_le (Nat.le_refl _) (by omega)) ⟨e + 1, xw_lay_103 (part := part) hd (fun rc' w => K pr rl rc' ⟨w0, ?_, ?_⟩) e 0 rc (by omega) ?_⟩
    · intro x y h1 h2 b hb
      exact (w1 x y h1 h2 (Or.inl h1) b hb).1
    · intro x y h1 h2 b hb
      obtain ⟨a1, a2, a3⟩ := w x y h1 h2 b hb
      cases c : tm_rc e (64 * part + b) x y
      · cases c2 : nb_b (rc' (3 * x + y)) b
        · rfl
        · rw [a1 c2] at c
          exact nomatch c
      · rcases tm_rc_c c with g | g | ⟨z, hz, g1, g2⟩
        · exact a2 (Or.inl g)
        · exact a2 (Or.inr g)
        · exact a3 z hz g1 g2 (Or.inl hz)
    · intro x y h1 h2 b hb
      have a := (w1 x y h1 h2 (Or.inl h1) b hb).2
      rw [a]
      refine ⟨fun g => ?_, fun g => ?_, fun z hz g1 g2 g3 => by omega⟩
      · rw [Bool.or_eq_true, decide_eq_true_iff] at g
        rcases g with g | g
        · subst g; exact tm_rc_0
        · exact tm_rc_1 g
      · rw [Bool.or_eq_true, decide_eq_true_iff]
        exact g
  | succ r ih =>
    intro e pr rl rc h w0 w1
    refine br_f (nI_ge (by omega) (by omega)) (xw_digit (by omega) hp (fun q hq => ?_))
    rw [nI_clamp (show e < 2 ^ 31 by omega)]
    refine ⟨vp_in_nI (by omega) (by decide), nm_e ⟨d + 1, xw_lay_26 hd hp (by omega) (fun rl' rc' w' => ih (e + 1) _ rl' rc' (by omega) ?_ ?_) d 0 rl rc (by omega) w1⟩⟩
    · intro e' h1 b hb
      by_cases y : e' = e
      · subst y; rw [pk_uLs]; exact hq b hb
      · rw [pk_uLn y]; exact w0 e' (by omega) b hb
    · intro e' f' g1 g2 g3 b hb
      exact w' e' f' g1 g2 (by omega) b hb
theorem xw_lay {post : SX → Prop} {d part : Nat} (hd : d ≤ 3) (hp : part < 64) (K : ∀ pr rl rc, xw_LP d part pr rl rc → post (fh, fa, fe, fk, nI d, fd, kd, ag, st, ln, al, mb, im, pr, rl, rc, tb, fr, hel)) : wpX_layPart post (fh, fa, fe, fk, fs, fd, kd, ag, st, ln, al, mb, im, pr, rl, rc, tb, fr, hel) (nI d) (nI part) :=
  ⟨d + 1, xw_lay_7 hd hp K d 0 pr rl rc (by omega) (fun _ h => absurd h (Nat.not_lt_zero _)) (fun _ _ _ _ h => by omega)⟩
end
end
section
/-! the component's steps of evaluation: atoms, not, joins, quantifiers -/
theorem xi_27 {h : Nat} (hh : 1 ≤ h) : (27 : Int32) * (nI h - 1) = nI (27 * (h - 1)) := by
  have e : nI h - 1 = nI (h - 1) := pk_sub (b := 1) hh
  rw [e]
  exact pk_mul 27 (h - 1)
/-- from t0 on, the places B .. B + i - 1 hold g -/
def xw_FL (t0 g : Nat → Int64) (B i : Nat) (tb : Nat → Int64) : Prop := ∀ j, tb j = if B ≤ j ∧ j < B + i then g j else t0 j
theorem xw_FL_0 (t0 g : Nat → Int64) (B : Nat) : xw_FL t0 g B 0 t0 := fun j => (if_neg (by omega)).symm
theorem xw_FL_s {t0 g : Nat → Int64} {B i : Nat} {tb : Nat → Int64} {v : Int64} (h : xw_FL t0 g B i tb) (hv : v = g (B + i)) : xw_FL t0 g B (i + 1) (vp_updL tb (B + i) v) := by
  intro j
  by_cases z : j = B + i
  · subst z; rw [pk_uLs, if_pos (by omega), hv]
  · rw [pk_uLn z, h j]
    by_cases y : B ≤ j ∧ j < B + i
    · rw [if_pos y, if_pos (by omega)]
    · rw [if_neg y, if_neg (by omega)]
theorem xw_FL_n {t0 g : Nat → Int64} {B i : Nat} {tb : Nat → Int64} (h : xw_FL t0 g B i tb) {j : Nat} (hj : ¬ (B ≤ j ∧ j < B + i)) : tb j = t0 j := by rw [h j, if_neg hj]
theorem xw_FL_y {t0 g : Nat → Int64} {B i : Nat} {tb : Nat → Int64} (h : xw_FL t0 g B i tb) {j : Nat} (hj : B ≤ j ∧ j < B + i) : tb j = g j := by rw [h j, if_pos hj]
def xw_jn (k : Nat) (x y : Int64) : Int64 := if k = 5 then x &&& y else if k = 6 then x ||| y else if k = 7 then (x ^^^ (-1)) ||| y else (x ^^^ y) ^^^ (-1)
theorem xw_jn_b (k : Nat) (x y : Int64) {b : Nat} (hb : b < 64) : nb_b (xw_jn k x y) b = tm_cb k (nb_b x b) (nb_b y b) := by
  unfold xw_jn tm_cb
  (repeat' split)
  · exact nb_and x y b
  · exact nb_or x y b
  · rw [nb_or, nb_not x hb]
  · rw [nb_not _ hb, nb_xor]
theorem tm_q1 (k a : Nat) (g : Nat → Bool) : tm_qt 1 k a g = decide (tm_ls 1 k a ≤ (g 0).toNat) := by
  show decide (tm_ls 1 k a ≤ 0 + (g 0).toNat) = _
  rw [Nat.zero_add]
theorem tm_q2 (k a : Nat) (g : Nat → Bool) : tm_qt 2 k a g = decide (tm_ls 2 k a ≤ (g 0).toNat + (g 1).toNat) := by
  show decide (tm_ls 2 k a ≤ 0 + (g 0).toNat + (g 1).toNat) = _
  rw [Nat.zero_add]
theorem tm_q3 (k a : Nat) (g : Nat → Bool) : tm_qt 3 k a g = decide (tm_ls 3 k a ≤ (g 0).toNat + (g 1).toNat + (g 2).toNat) := by
  show decide (tm_ls 3 k a ≤ 0 + (g 0).toNat + (g 1).toNat + (g 2).toNat) = _
  rw [Nat.zero_add]
theorem tm_ls_9 (d a : Nat) : tm_ls d 9 a = d := rfl
theorem tm_ls_10 (d a : Nat) : tm_ls d 10 a = 1 := rfl
theorem tm_ls_11 (d a : Nat) : tm_ls d 11 a = 2 + a / 3 := rfl
/-- some -/
theorem tm_q10 {d a : Nat} (h1 : 1 ≤ d) (h3 : d ≤ 3) (g : Nat → Bool) : ((g 0 || (decide (1 < d) && g 1)) || (decide (2 < d) && g 2)) = tm_qt d 10 a g := by
  refine tm_d3 (P := fun d => ((g 0 || (decide (1 < d) && g 1)) || (decide (2 < d) && g 2)) = tm_qt d 10 a g) h1 h3 ?_ ?_ ?_
  · rw [tm_q1, tm_ls_10]; cases g 0 <;> cases g 1 <;> cases g 2 <;> rfl
  · rw [tm_q2, tm_ls_10]; cases g 0 <;> cases g 1 <;> cases g 2 <;> rfl
  · rw [tm_q3, tm_ls_10]; cases g 0 <;> cases g 1 <;> cases g 2 <;> rfl
/-- all -/
theorem tm_q9 {d a : Nat} (h1 : 1 ≤ d) (h3 : d ≤ 3) (g : Nat → Bool) : (if d ≤ 1 then g 0 else if d ≤ 2 then g 0 && g 1 else (g 0 && g 1) && g 2) = tm_qt d 9 a g := by
  refine tm_d3 (P := fun d => (if d ≤ 1 then g 0 else if d ≤ 2 then g 0 && g 1 else (g 0 && g 1) && g 2) = tm_qt d 9 a g) h1 h3 ?_ ?_ ?_
  · rw [tm_q1, tm_ls_9]; cases g 0 <;> cases g 1 <;> cases g 2 <;> rfl
  · rw [tm_q2, tm_ls_9]; cases g 0 <;> cases g 1 <;> cases g 2 <;> rfl
  · rw [tm_q3, tm_ls_9]; cases g 0 <;> cases g 1 <;> cases g 2 <;> rfl
/-- three -/
theorem tm_q11 {d a : Nat} (h1 : 1 ≤ d) (h3 : d ≤ 3) (ha : a / 3 = 1) (g : Nat → Bool) : ((g 0 && (decide (1 < d) && g 1)) && (decide (2 < d) && g 2)) = tm_qt d 11 a g := by
  refine tm_d3 (P := fun d => ((g 0 && (decide (1 < d) && g 1)) && (decide (2 < d) && g 2)) = tm_qt d 11 a g) h1 h3 ?_ ?_ ?_
  · rw [tm_q1, tm_ls_11, ha]; cases g 0 <;> cases g 1 <;> cases g 2 <;> rfl
  · rw [tm_q2, tm_ls_11, ha]; cases g 0 <;> cases g 1 <;> cases g 2 <;> rfl
  · rw [tm_q3, tm_ls_11, ha]; cases g 0 <;> cases g 1 <;> cases g 2 <;> rfl
/-- two -/
theorem tm_q12 {d a : Nat} (h1 : 1 ≤ d) (h3 : d ≤ 3) (ha : a / 3 = 0) (g : Nat → Bool) : (((g 0 && (decide (1 < d) && g 1)) || (g 0 && (decide (2 < d) && g 2))) || ((decide (1 < d) && g 1) && (decide (2 < d) && g 2))) = tm_qt d 11 a g := by
  refine tm_d3 (P := fun d => (((g 0 && (decide (1 < d) && g 1)) || (g 0 && (decide (2 < d) && g 2))) || ((decide (1 < d) && g 1) && (decide (2 < d) && g 2))) = tm_qt d 11 a g) h1 h3 ?_ ?_ ?_
  · rw [tm_q1, tm_ls_11, ha]; cases g 0 <;> cases g 1 <;> cases g 2 <;> rfl
  · rw [tm_q2, tm_ls_11, ha]; cases g 0 <;> cases g 1 <;> cases g 2 <;> rfl
  · rw [tm_q3, tm_ls_11, ha]; cases g 0 <;> cases g 1 <;> cases g 2 <;> rfl
section
variable {fh fa fe fk fs fd : Int32} {kd ag st ln al : Nat → Int32} {mb : Nat → Int64} {im : Nat → Int32} {pr rl rc tb fr hel : Nat → Int64}
theorem xw_neg_12 {post : SX → Prop} {B : Nat} (hB : B + 27 ≤ 378) {t0 : Nat → Int64} (K : ∀ tb, xw_FL t0 (fun j => t0 j ^^^ (-1)) B 27 tb → post (fh, fa, fe, fk, fs, fd, kd, ag, st, ln, al, mb, im, pr, rl, rc, tb, fr, hel)) :
    ∀ (r i : Nat) (tb : Nat → Int64), i + r = 27 → xw_FL t0 (fun j => t0 j ^^^ (-1)) B i tb → wX_negate_12 post (nI B) fh fa fe fk fs fd (r + 1) (nI i) kd ag st ln al mb im pr rl rc tb fr hel := by
  intro r
  induction r with
  | zero =>
    intro i tb h w
    have e : i = 27 := by omega
    subst e
    exact br_t (nI_le (a := 27) (b := 27) (Nat.le_refl _) (by decide)) (K tb w)
  | succ r ih =>
    intro i tb h w
    refine br_f (nI_ge (b := 27) (by omega) (by decide)) ?_
    rw [xi_cl (show B + i < 2 ^ 31 by omega)]
    exact ⟨xi_in (by omega) (by decide), xi_in (by omega) (by decide), nm_e (nm_r (nI_1 i) (ih (i + 1) _ (by omega) (xw_FL_s w (by rw [xw_FL_n w (by omega)]))))⟩
theorem xw_neg {post : SX → Prop} {h : Nat} (h1 : 1 ≤ h) (h2 : h ≤ 14) (K : ∀ tb', xw_FL tb (fun j => tb j ^^^ (-1)) (27 * (h - 1)) 27 tb' → post (fh, fa, fe, fk, fs, nI h, kd, ag, st, ln, al, mb, im, pr, rl, rc, tb', fr, hel)) : wpX_negate post (fh, fa, fe, fk, fs, nI h, kd, ag, st, ln, al, mb, im, pr, rl, rc, tb, fr, hel) :=
  nm_r (xi_27 h1) ⟨28, xw_neg_12 (by omega) K 27 0 tb rfl (xw_FL_0 _ _ _)⟩
theorem xw_joined {post : Int64 → Prop} {k : Nat} {x y : Int64} (h5 : 5 ≤ k) (h8 : k < 9) (K : post (xw_jn k x y)) : wpX_joined post (nI k) x y := by
  unfold xw_jn at K
  refine br_f (nI_nlt (b := 5) h5 (by omega)) (pk_lt 7 k (fun g => ?_) (fun g => pk_eq k 5 (fun z => ?_) (fun z5 => pk_eq k 6 (fun z => ?_) (fun z6 => pk_eq k 7 (fun z => ?_) (fun z7 => trivial)))))
  · rw [if_neg (by omega), if_neg (by omega), if_neg (by omega)] at K; exact K
  · rw [if_pos z] at K; exact K
  · rw [if_neg z5, if_pos z] at K; exact K
  · rw [if_neg z5, if_neg z6, if_pos z] at K; exact K
theorem xw_join_12 {post : SX → Prop} {B k : Nat} (hB : B + 54 ≤ 378) (h5 : 5 ≤ k) (h8 : k < 9) {t0 : Nat → Int64} (K : ∀ tb, xw_FL t0 (fun j => xw_jn k (t0 j) (t0 (j + 27))) B 27 tb → post (fh, fa, fe, fk, fs, fd, kd, ag, st, ln, al, mb, im, pr, rl, rc, tb, fr, hel)) :
    ∀ (r i : Nat) (tb : Nat → Int64), i + r = 27 → xw_FL t0 (fun j => xw_jn k (t0 j) (t0 (j + 27))) B i tb → wX_join_12 post (nI k) (nI B) fh fa fe fk fs fd (r + 1) (nI i) kd ag st ln al mb im pr rl rc tb fr hel := by
  intro r
  induction r with
  | zero =>
    intro i tb h w
    have e : i = 27 := by omega
    subst e
    exact br_t (nI_le (a := 27) (b := 27) (Nat.le_refl _) (by decide)) (K tb w)
  | succ r ih =>
    intro i tb h w
    refine br_f (nI_ge (b := 27) (by omega) (by decide)) ?_
    have e27 : nI B + 27 = nI (B + 27) := nI_add B 27
    rw [e27, xi_cl (show B + i < 2 ^ 31 by omega), xi_cl (show B + 27 + i < 2 ^ 31 by omega)]
    exact ⟨xi_in (by omega) (by decide), nm_e ⟨xi_in (by omega) (by decide), nm_e (xw_joined h5 h8 ⟨xi_in (by omega) (by decide), nm_e (nm_r (nI_1 i) (ih (i + 1) _ (by omega) (xw_FL_s w (by rw [xw_FL_n w (by omega), xw_FL_n w (show ¬ (B ≤ B + 27 + i ∧ B + 27 + i < B + i) by omega), show B + 27 + i = B + i + 27 by omega]))))⟩)⟩⟩
theorem xw_join {post : SX → Prop} {h k : Nat} (h1 : 1 ≤ h) (h2 : h ≤ 13) (h5 : 5 ≤ k) (h8 : k < 9) (K : ∀ tb', xw_FL tb (fun j => xw_jn k (tb j) (tb (j + 27))) (27 * (h - 1)) 27 tb' → post (fh, fa, fe, fk, fs, nI h, kd, ag, st, ln, al, mb, im, pr, rl, rc, tb', fr, hel)) : wpX_join post (fh, fa, fe, fk, fs, nI h, kd, ag, st, ln, al, mb, im, pr, rl, rc, tb, fr, hel) (nI k) :=
  nm_r (xi_27 h1) ⟨28, xw_join_12 (by omega) h5 h8 K 27 0 tb rfl (xw_FL_0 _ _ _)⟩
/-! atoms -/
/-- rows of the lists ahead of i are laid, all else is as it was -/
def xw_AT (d B i : Nat) (v : Nat → Nat → Bool) (t0 tb : Nat → Int64) : Prop := (∀ j, ¬ (B ≤ j ∧ j < B + 27) → tb j = t0 j) ∧ ∀ l, l < i → tm_isl d l = true → ∀ b, b < 64 → nb_b (tb (B + l)) b = v b l
theorem tm_at_av {d m k a l : Nat} : tm_at d m k a l = tm_av d m k (tm_el l (if k = 0 then a else a / 3)) (tm_el l (if k = 0 then a else a % 3)) := by
  unfold tm_at tm_av
  by_cases h : k = 0
  · rw [if_pos h, if_pos h, if_pos h]
  · rw [if_neg h, if_neg h, if_neg h, if_neg h]
theorem xw_la_58 {post : SX → Prop} {J : Int32 → (Nat → Int32) → (Nat → Int32) → (Nat → Int32) → (Nat → Int32) → (Nat → Int32) → (Nat → Int64) → (Nat → Int32) → (Nat → Int64) → (Nat → Int64) → (Nat → Int64) → (Nat → Int64) → (Nat → Int64) → (Nat → Int64) → Prop} {x2 : Int32} {d part k B l e w : Nat} (hd : d ≤ 3) (L : xw_LP d part pr rl rc) (hk : k < 4) (hB : B + 27 ≤ 378) (hl : tm_isl d l = true) (he : e < d) (hw : w < 3)
    (K : ∀ r, (∀ b, b < 64 → nb_b r b = tm_av d (64 * part + b) k e (tm_el l w)) → J (nI (l + 1)) kd ag st ln al mb im pr rl rc (vp_updL tb (B + l) r) fr hel) : wX_layAtom_58 post J (nI k) x2 (nI B) (nI l) (nI e) (nI w) (nI l) fh fa fe fk (nI d) fd kd ag st ln al mb im pr rl rc tb fr hel := by
  have hl2 := (tm_isl_iff.mp hl).1
  unfold wX_layAtom_58
  refine xw_el hl2 hw (xw_atom hd L hk he (tm_el_d hl) (fun r hr => ?_))
  rw [xi_cl (show B + l < 2 ^ 31 by omega)]
  exact ⟨xi_in (by omega) (by decide), nm_e (nm_r (nI_1 l) (K r hr))⟩
theorem xw_la_40 {post : SX → Prop} {J : Int32 → (Nat → Int32) → (Nat → Int32) → (Nat → Int32) → (Nat → Int32) → (Nat → Int32) → (Nat → Int64) → (Nat → Int32) → (Nat → Int64) → (Nat → Int64) → (Nat → Int64) → (Nat → Int64) → (Nat → Int64) → (Nat → Int64) → Prop} {d part k a B l w : Nat} (hd : d ≤ 3) (L : xw_LP d part pr rl rc) (hk : k < 4) (ha : a ≤ tm_bd k) (hB : B + 27 ≤ 378) (hl : tm_isl d l = true) (hw : w = if k = 0 then a else a / 3)
    (K : ∀ r, (∀ b, b < 64 → nb_b r b = tm_at d (64 * part + b) k a l) → J (nI (l + 1)) kd ag st ln al mb im pr rl rc (vp_updL tb (B + l) r) fr hel) : wX_layAtom_40 post J (nI k) (nI a) (nI B) (nI l) (nI w) (nI l) fh fa fe fk (nI d) fd kd ag st ln al mb im pr rl rc tb fr hel := by
  have hl2 := (tm_isl_iff.mp hl).1
  have ha8 : a ≤ 8 := by unfold tm_bd at ha; (repeat' split at ha) <;> omega
  have hw3 : w < 3 := by
    subst hw
    by_cases z : k = 0
    · rw [if_pos z]; unfold tm_bd at ha; rw [if_pos z] at ha; omega
    · rw [if_neg z]; omega
  unfold wX_layAtom_40
  refine xw_el hl2 hw3 (pk_eq k 0 (fun z => xw_la_58 hd L hk hB hl (tm_el_d hl) (w := a) ?_ (fun r hr => K r (fun b hb => ?_))) (fun z => ⟨xi_n3, ?_⟩))
  · rw [if_pos z] at hw; omega
  · rw [hr b hb, tm_at_av, hw, if_pos z, if_pos z]
  · rw [xi_r3 (by omega)]
    refine xw_la_58 hd L hk hB hl (tm_el_d hl) (w := a % 3) (by omega) (fun r hr => K r (fun b hb => ?_))
    rw [hr b hb, tm_at_av, hw, if_neg z, if_neg z]
theorem xw_la_11 {post : SX → Prop} {d part k a B : Nat} (hd : d ≤ 3) (L : xw_LP d part pr rl rc) (hk : k < 4) (ha : a ≤ tm_bd k) (hB : B + 27 ≤ 378) {t0 : Nat → Int64}
    (K : ∀ tb, xw_AT d B 27 (fun b l => tm_at d (64 * part + b) k a l) t0 tb → post (fh, fa, fe, fk, nI d, fd, kd, ag, st, ln, al, mb, im, pr, rl, rc, tb, fr, hel)) :
    ∀ (r i : Nat) (tb : Nat → Int64), i + r = 27 → xw_AT d B i (fun b l => tm_at d (64 * part + b) k a l) t0 tb → wX_layAtom_11 post (nI k) (nI a) (nI B) fh fa fe fk (nI d) fd (r + 1) (nI i) kd ag st ln al mb im pr rl rc tb fr hel := by
  intro r
  induction r with
  | zero =>
    intro i tb h w
    have e : i = 27 := by omega
    subst e
    exact br_t (nI_le (a := 27) (b := 27) (Nat.le_refl _) (by decide)) (K tb w)
  | succ r ih =>
    intro i tb h w
    have ha8 : a ≤ 8 := by unfold tm_bd at ha; (repeat' split at ha) <;> omega
    have hs : tm_isl d i = true → ∀ q, (∀ b, b < 64 → nb_b q b = tm_at d (64 * part + b) k a i) → xw_AT d B (i + 1) (fun b l => tm_at d (64 * part + b) k a l) t0 (vp_updL tb (B + i) q) := by
      intro hi q hq
      refine ⟨fun j hj => ?_, fun l hl h2 b hb => ?_⟩
      · rw [pk_uLn (by omega)]; exact w.1 j hj
      · by_cases z : l = i
        · subst z; rw [pk_uLs]; exact hq b hb
        · rw [pk_uLn (by omega)]; exact w.2 l (by omega) h2 b hb
    refine br_f (nI_ge (b := 27) (by omega) (by decide)) (xw_isl hd (by omega) (fun hi => br_f (by decide) ?_) (fun hi => br_t rfl (nm_r (nI_1 i) (ih (i + 1) tb (by omega) ?_))))
    · refine pk_eq k 0 (fun z => xw_la_40 hd L hk ha hB hi (w := a) (by rw [if_pos z]) (fun q hq => ih (i + 1) _ (by omega) (hs hi q hq))) (fun z => ⟨xi_n3, ?_⟩)
      rw [xi_d3 (by omega)]
      exact xw_la_40 hd L hk ha hB hi (w := a / 3) (by rw [if_neg z]) (fun q hq => ih (i + 1) _ (by omega) (hs hi q hq))
    · refine ⟨w.1, fun l hl h2 b hb => ?_⟩
      by_cases z : l = i
      · subst z; rw [hi] at h2; exact nomatch h2
      · exact w.2 l (by omega) h2 b hb
theorem xw_la {post : SX → Prop} {d part k a h : Nat} (hd : d ≤ 3) (L : xw_LP d part pr rl rc) (hk : k < 4) (ha : a ≤ tm_bd k) (hh : h ≤ 13)
    (K : ∀ tb', xw_AT d (27 * h) 27 (fun b l => tm_at d (64 * part + b) k a l) tb tb' → post (fh, fa, fe, fk, nI d, nI h, kd, ag, st, ln, al, mb, im, pr, rl, rc, tb', fr, hel)) : wpX_layAtom post (fh, fa, fe, fk, nI d, nI h, kd, ag, st, ln, al, mb, im, pr, rl, rc, tb, fr, hel) (nI k) (nI a) :=
  nm_r (pk_mul 27 h) ⟨28, xw_la_11 hd L hk ha (by omega) K 27 0 tb rfl ⟨fun _ _ => rfl, fun l hl => absurd hl (Nat.not_lt_zero l)⟩⟩
end
end
section
/-! quantifiers -/
theorem xi_sub {a b : Nat} {x y : Int32} (hx : x = nI a) (hy : y = nI b) (h : b ≤ a) : x - y = nI (a - b) := by subst hx hy; exact pk_sub h
theorem tm_wt_0 (l v : Nat) : tm_wt l v 0 = l - tm_pl v * tm_el l v := rfl
theorem tm_wt_1 (l v : Nat) : tm_wt l v 1 = l - tm_pl v * tm_el l v + tm_pl v := by unfold tm_wt; rw [Nat.mul_one]
theorem tm_wt_2 (l v : Nat) : tm_wt l v 2 = l - tm_pl v * tm_el l v + 2 * tm_pl v := by unfold tm_wt; rw [Nat.mul_comm _ 2]
section
variable {fh fa fe fk fs fd : Int32} {kd ag st ln al : Nat → Int32} {mb : Nat → Int64} {im : Nat → Int32} {pr rl rc tb fr hel : Nat → Int64}
theorem xw_quantified {post : Int64 → Prop} {d k a : Nat} (h1 : 1 ≤ d) (h3 : d ≤ 3) (hk : 9 ≤ k) (hk2 : k ≤ 11) (ha : a ≤ 5) {p2 p3 p4 : Int64} {g : Nat → Nat → Bool}
    (e2 : ∀ b, b < 64 → nb_b p2 b = g b 0) (e3 : ∀ b, b < 64 → nb_b p3 b = (decide (1 < d) && g b 1)) (e4 : ∀ b, b < 64 → nb_b p4 b = (decide (2 < d) && g b 2))
    (K : ∀ r, (∀ b, b < 64 → nb_b r b = tm_qt d k a (g b)) → post r) : wpX_quantified post (fh, fa, fe, fk, nI d, fd, kd, ag, st, ln, al, mb, im, pr, rl, rc, tb, fr, hel) (nI k) (nI (a / 3)) p2 p3 p4 := by
  unfold wpX_quantified wX_quantified_36
  dsimp only
  refine pk_eq k 10 (fun z => K _ (fun b hb => ?_)) (fun z10 => pk_eq k 9 (fun z => pk_le d 1 (fun g1 => pk_le d 2 (fun g2 => K _ (fun b hb => ?_)) (fun g2 => ?_)) (fun g1 => pk_le d 2 (fun g2 => K _ (fun b hb => ?_)) (fun g2 => K _ (fun b hb => ?_)))) (fun z9 => pk_eq (a / 3) 1 (fun z => K _ (fun b hb => ?_)) (fun z => K _ (fun b hb => ?_))))
  · subst z
    rw [nb_or, nb_or, e2 b hb, e3 b hb, e4 b hb, tm_q10 h1 h3]
  · subst z
    rw [e2 b hb, ← tm_q9 h1 h3, if_pos g1]
  · omega
  · subst z
    rw [nb_and, e2 b hb, e3 b hb, decide_eq_true g1, Bool.true_and, ← tm_q9 h1 h3, if_neg (by omega), if_pos g2]
  · subst z
    rw [nb_and, nb_and, e2 b hb, e3 b hb, e4 b hb, decide_eq_true g1, decide_eq_true g2, Bool.true_and, Bool.true_and, ← tm_q9 h1 h3, if_neg (by omega), if_neg (by omega)]
  · have : k = 11 := by omega
    subst this
    rw [nb_and, nb_and, e2 b hb, e3 b hb, e4 b hb, tm_q11 h1 h3 z]
  · have : k = 11 := by omega
    subst this
    rw [nb_or, nb_or, nb_and, nb_and, nb_and, e2 b hb, e3 b hb, e4 b hb, tm_q12 (a := a) h1 h3 (by omega)]
theorem xw_qu_162 {post : SX → Prop} {B : Nat} (hB : B + 27 ≤ 378) {t0 : Nat → Int64} (K : ∀ tb, xw_FL t0 (fun j => fr (j - B)) B 27 tb → post (fh, fa, fe, fk, fs, fd, kd, ag, st, ln, al, mb, im, pr, rl, rc, tb, fr, hel)) :
    ∀ (r i : Nat) (tb : Nat → Int64), i + r = 27 → xw_FL t0 (fun j => fr (j - B)) B i tb → wX_quantify_162 post (nI B) fh fa fe fk fs fd (r + 1) (nI i) kd ag st ln al mb im pr rl rc tb fr hel := by
  intro r
  induction r with
  | zero =>
    intro i tb h w
    have e : i = 27 := by omega
    subst e
    exact br_t (nI_le (a := 27) (b := 27) (Nat.le_refl _) (by decide)) (K tb w)
  | succ r ih =>
    intro i tb h w
    refine br_f (nI_ge (b := 27) (by omega) (by decide)) ?_
    rw [xi_cl (show B + i < 2 ^ 31 by omega), nI_clamp (show i < 2 ^ 31 by omega)]
    exact ⟨vp_in_nI (by omega) (by decide), xi_in (by omega) (by decide), nm_e (nm_r (nI_1 i) (ih (i + 1) _ (by omega) (xw_FL_s w (by rw [Nat.add_sub_cancel_left]))))⟩
theorem xw_qu_130 {post : SX → Prop} {J : Int32 → (Nat → Int32) → (Nat → Int32) → (Nat → Int32) → (Nat → Int32) → (Nat → Int32) → (Nat → Int64) → (Nat → Int32) → (Nat → Int64) → (Nat → Int64) → (Nat → Int64) → (Nat → Int64) → (Nat → Int64) → (Nat → Int64) → Prop} {x3 x4 x5 : Int32} {d k a i : Nat} (h1 : 1 ≤ d) (h3 : d ≤ 3) (hk : 9 ≤ k) (hk2 : k ≤ 11) (ha : a ≤ 5) (hi : i < 27) {p2 p3 p4 : Int64} {g : Nat → Nat → Bool}
    (e2 : ∀ b, b < 64 → nb_b p2 b = g b 0) (e3 : ∀ b, b < 64 → nb_b p3 b = (decide (1 < d) && g b 1)) (e4 : ∀ b, b < 64 → nb_b p4 b = (decide (2 < d) && g b 2))
    (K : ∀ r, (∀ b, b < 64 → nb_b r b = tm_qt d k a (g b)) → J (nI (i + 1)) kd ag st ln al mb im pr rl rc tb (vp_updL fr i r) hel) : wX_quantify_130 post J (nI k) (nI a) x3 x4 x5 (nI i) p2 p3 p4 fh fa fe fk (nI d) fd kd ag st ln al mb im pr rl rc tb fr hel := by
  unfold wX_quantify_130
  rw [xi_d3 (by omega)]
  refine ⟨xi_n3, xw_quantified h1 h3 hk hk2 ha e2 e3 e4 (fun r hr => ?_)⟩
  rw [nI_clamp (show i < 2 ^ 31 by omega)]
  exact ⟨vp_in_nI hi (by decide), nm_e (nm_r (nI_1 i) (K r hr))⟩
theorem xw_qu_101 {post : SX → Prop} {J : Int32 → (Nat → Int32) → (Nat → Int32) → (Nat → Int32) → (Nat → Int32) → (Nat → Int32) → (Nat → Int64) → (Nat → Int32) → (Nat → Int64) → (Nat → Int64) → (Nat → Int64) → (Nat → Int64) → (Nat → Int64) → (Nat → Int64) → Prop} {x3 : Int32} {d k a i B z pl : Nat} (h1 : 1 ≤ d) (h3 : d ≤ 3) (hk : 9 ≤ k) (hk2 : k ≤ 11) (ha : a ≤ 5) (hi : i < 27) (hB : B + 27 ≤ 378) {p2 p3 : Int64} {g : Nat → Nat → Bool} (hz : 2 < d → z + 2 * pl < 27)
    (e2 : ∀ b, b < 64 → nb_b p2 b = g b 0) (e3 : ∀ b, b < 64 → nb_b p3 b = (decide (1 < d) && g b 1)) (e4 : 2 < d → ∀ b, b < 64 → nb_b (tb (B + z + 2 * pl)) b = g b 2)
    (K : ∀ r, (∀ b, b < 64 → nb_b r b = tm_qt d k a (g b)) → J (nI (i + 1)) kd ag st ln al mb im pr rl rc tb (vp_updL fr i r) hel) : wX_quantify_101 post J (nI k) (nI a) x3 (nI B) (nI pl) (nI i) (nI z) p2 p3 fh fa fe fk (nI d) fd kd ag st ln al mb im pr rl rc tb fr hel := by
  unfold wX_quantify_101
  refine pk_le d 2 (fun h2 => xw_qu_130 h1 h3 hk hk2 ha hi e2 e3 (fun b hb => ?_) K) (fun h2 => ?_)
  · rw [decide_eq_false (by omega), Bool.false_and]; exact nb_0 b
  · have hz2 := hz h2
    have e : nI B + nI z + 2 * nI pl = nI (B + z + 2 * pl) := by
      have a1 : (2 : Int32) * nI pl = nI (2 * pl) := pk_mul 2 pl
      rw [a1, nI_add, nI_add]
    rw [e, nI_clamp (show B + z + 2 * pl < 2 ^ 31 by omega)]
    refine ⟨vp_in_nI (by omega) (by decide), xw_qu_130 h1 h3 hk hk2 ha hi e2 e3 (fun b hb => ?_) K⟩
    rw [decide_eq_true h2, Bool.true_and]; exact e4 h2 b hb
/-- fresh rows of the lists ahead of i -/
def xw_FR (d i : Nat) (v : Nat → Nat → Bool) (fr : Nat → Int64) : Prop := ∀ l, l < i → tm_isl d l = true → ∀ b, b < 64 → nb_b (fr l) b = v b l
theorem xw_qu_34 {post : SX → Prop} {d k a v B : Nat} (h1 : 1 ≤ d) (h3 : d ≤ 3) (hk : 9 ≤ k) (hk2 : k ≤ 11) (ha : a ≤ 5) (hv : v < 3) (hB : B + 27 ≤ 378) {S : Nat → Nat → Bool} (hS : ∀ l, tm_isl d l = true → ∀ b, b < 64 → nb_b (tb (B + l)) b = S b l)
    (K : ∀ tb' fr, xw_FR d 27 (fun b l => tm_qt d k a (fun e => S b (tm_wt l v e))) fr → xw_FL tb (fun j => fr (j - B)) B 27 tb' → post (fh, fa, fe, fk, nI d, fd, kd, ag, st, ln, al, mb, im, pr, rl, rc, tb', fr, hel)) :
    ∀ (r i : Nat) (fr : Nat → Int64), i + r = 27 → xw_FR d i (fun b l => tm_qt d k a (fun e => S b (tm_wt l v e))) fr → wX_quantify_34 post (nI k) (nI a) (nI v) (nI B) (nI (tm_pl v)) fh fa fe fk (nI d) fd (r + 1) (nI i) kd ag st ln al mb im pr rl rc tb fr hel := by
  intro r
  induction r with
  | zero =>
    intro i fr h w
    have e : i = 27 := by omega
    subst e
    exact br_t (nI_le (a := 27) (b := 27) (Nat.le_refl _) (by decide)) ⟨28, xw_qu_162 hB (fun tb' w' => K tb' fr w w') 27 0 tb rfl (xw_FL_0 _ _ _)⟩
  | succ r ih =>
    intro i fr h w
    have hi27 : i < 27 := by omega
    refine br_f (nI_ge (b := 27) (by omega) (by decide)) (xw_isl h3 hi27 (fun hi => br_f (by decide) (xw_el hi27 hv ?_)) (fun hi => br_t rfl (nm_r (nI_1 i) (ih (i + 1) fr (by omega) ?_))))
    · have hle : tm_pl v * tm_el i v ≤ i := tm_pl_el
      have e7 : nI i - nI (tm_pl v) * nI (tm_el i v) = nI (tm_wt i v 0) := xi_sub rfl (pk_mul _ _) hle
      have w0 : tm_isl d (tm_wt i v 0) = true := tm_wt_isl hi (by omega) h3
      have hw0 := (tm_isl_iff.mp w0).1
      have hfin : ∀ q, (∀ b, b < 64 → nb_b q b = tm_qt d k a (fun e => S b (tm_wt i v e))) → xw_FR d (i + 1) (fun b l => tm_qt d k a (fun e => S b (tm_wt l v e))) (vp_updL fr i q) := by
        intro q hq l hl h2 b hb
        by_cases z : l = i
        · subst z; rw [pk_uLs]; exact hq b hb
        · rw [pk_uLn z]; exact w l (by omega) h2 b hb
      refine nm_r e7 ⟨xi_in (by omega) (by decide), nm_r (e' := tb (B + tm_wt i v 0)) (by rw [xi_cl (by omega)]) ?_⟩
      have e20 : ∀ b, b < 64 → nb_b (tb (B + tm_wt i v 0)) b = S b (tm_wt i v 0) := hS _ w0
      have hz : 2 < d → tm_wt i v 0 + 2 * tm_pl v < 27 := by
        intro g
        have w2 := (tm_isl_iff.mp (tm_wt_isl (v := v) hi (show 2 < d from g) h3)).1
        rw [tm_wt_2] at w2
        rw [tm_wt_0]
        exact w2
      have e4 : 2 < d → ∀ b, b < 64 → nb_b (tb (B + tm_wt i v 0 + 2 * tm_pl v)) b = S b (tm_wt i v 2) := by
        intro g b hb
        rw [← hS _ (tm_wt_isl (v := v) hi (show 2 < d from g) h3) b hb, tm_wt_2, tm_wt_0, Nat.add_assoc]
      refine pk_le d 1 (fun g1 => xw_qu_101 (g := fun b e => S b (tm_wt i v e)) h1 h3 hk hk2 ha hi27 hB hz e20 (fun b hb => ?_) e4 (fun q hq => ih (i + 1) _ (by omega) (hfin q hq))) (fun g1 => ?_)
      · rw [decide_eq_false (by omega), Bool.false_and]; exact nb_0 b
      · have w1 := tm_wt_isl (v := v) hi (show 1 < d from g1) h3
        have hw1 := (tm_isl_iff.mp w1).1
        rw [tm_wt_1, ← tm_wt_0] at hw1
        have e8 : nI B + nI (tm_wt i v 0) + nI (tm_pl v) = nI (B + tm_wt i v 0 + tm_pl v) := by rw [nI_add, nI_add]
        rw [e8, nI_clamp (show B + tm_wt i v 0 + tm_pl v < 2 ^ 31 by omega)]
        refine ⟨vp_in_nI (by omega) (by decide), xw_qu_101 (g := fun b e => S b (tm_wt i v e)) h1 h3 hk hk2 ha hi27 hB hz e20 (fun b hb => ?_) e4 (fun q hq => ih (i + 1) _ (by omega) (hfin q hq))⟩
        rw [decide_eq_true g1, Bool.true_and, ← hS _ w1 b hb, tm_wt_1, tm_wt_0, Nat.add_assoc]
    · intro l hl h2 b hb
      by_cases z : l = i
      · subst z; rw [hi] at h2; exact nomatch h2
      · exact w l (by omega) h2 b hb
theorem xw_qu {post : SX → Prop} {d k a h : Nat} (h1 : 1 ≤ d) (h3 : d ≤ 3) (hk : 9 ≤ k) (hk2 : k ≤ 11) (ha : a ≤ tm_bd k) (g1 : 1 ≤ h) (g2 : h ≤ 14) {S : Nat → Nat → Bool} (hS : ∀ l, tm_isl d l = true → ∀ b, b < 64 → nb_b (tb (27 * (h - 1) + l)) b = S b l)
    (K : ∀ tb' fr, xw_AT d (27 * (h - 1)) 27 (fun b l => tm_qt d k a (fun e => S b (tm_wt l (a % 3) e))) tb tb' → post (fh, fa, fe, fk, nI d, nI h, kd, ag, st, ln, al, mb, im, pr, rl, rc, tb', fr, hel)) : wpX_quantify post (fh, fa, fe, fk, nI d, nI h, kd, ag, st, ln, al, mb, im, pr, rl, rc, tb, fr, hel) (nI k) (nI a) := by
  have ha5 : a ≤ 5 := by unfold tm_bd at ha; (repeat' split at ha) <;> omega
  have key : ∀ v, v < 3 → v = a % 3 → wX_quantify_13 post (nI k) (nI a) (nI v) fh fa fe fk (nI d) (nI h) kd ag st ln al mb im pr rl rc tb fr hel := by
    intro v hv ev
    subst ev
    unfold wX_quantify_13
    refine nm_r (xi_27 g1) (xw_place hv ⟨28, xw_qu_34 h1 h3 hk hk2 ha5 hv (by omega) hS (fun tb' fr w1 w2 => K tb' fr ⟨fun j hj => xw_FL_n w2 hj, fun l hl h2 b hb => ?_⟩) 27 0 fr rfl (fun l hl => absurd hl (Nat.not_lt_zero l))⟩)
    rw [xw_FL_y w2 (by omega)]
    dsimp only
    rw [Nat.add_sub_cancel_left]
    exact w1 l hl h2 b hb
  unfold wpX_quantify
  refine pk_eq k 11 (fun z => ⟨xi_n3, ?_⟩) (fun z => ?_)
  · rw [xi_r3 (by omega)]
    exact key (a % 3) (by omega) rfl
  · have : a ≤ 2 := by unfold tm_bd at ha; (repeat' split at ha) <;> omega
    exact key a (by omega) (by omega)
end
end
section
/-! a formula worked out for 64 interpretations; validity; models of a part -/
def xw_TB (d part : Nat) (f : tm_F) (i : Nat) (tb : Nat → Int64) : Prop := ∀ p, p < tm_dp f i → ∀ l, tm_isl d l = true → ∀ b, b < 64 → nb_b (tb (27 * p + l)) b = tm_sv d (64 * part + b) f i p l
theorem xw_TB_at {d part : Nat} {f : tm_F} {i kk aa : Nat} {tb tb' : Nat → Int64} (ek : tm_k f i = kk) (ea : tm_a f i = aa) (hk : kk < 4) (w : xw_TB d part f i tb)
    (a : xw_AT d (27 * tm_dp f i) 27 (fun b l => tm_at d (64 * part + b) kk aa l) tb tb') : xw_TB d part f (i + 1) tb' := by
  subst ek ea
  intro p hp l hl b hb
  have h27 := (tm_isl_iff.mp hl).1
  rw [tm_dp_s, tm_tn_0 hk] at hp
  rw [tm_sv_at hk]
  by_cases z : p = tm_dp f i
  · rw [if_pos z, z]; exact a.2 l h27 hl b hb
  · rw [if_neg z, a.1 _ (by omega)]; exact w p (by omega) l hl b hb
theorem xw_TB_not {d part : Nat} {f : tm_F} {i : Nat} {tb tb' : Nat → Int64} (ek : tm_k f i = 4) (w : xw_TB d part f i tb)
    (a : xw_FL tb (fun j => tb j ^^^ (-1)) (27 * (tm_dp f i - 1)) 27 tb') : xw_TB d part f (i + 1) tb' := by
  intro p hp l hl b hb
  have h27 := (tm_isl_iff.mp hl).1
  rw [tm_dp_s, tm_tn_1 (Or.inl ek)] at hp
  rw [tm_sv_not ek]
  by_cases z : p + 1 = tm_dp f i
  · rw [if_pos z, xw_FL_y a (by omega)]
    rw [nb_not _ hb, w p (by omega) l hl b hb]
  · rw [if_neg z, xw_FL_n a (by omega)]; exact w p (by omega) l hl b hb
theorem xw_TB_cb {d part : Nat} {f : tm_F} {i : Nat} {tb tb' : Nat → Int64} (h5 : 5 ≤ tm_k f i) (h9 : tm_k f i < 9) (w : xw_TB d part f i tb) (h2 : 2 ≤ tm_dp f i)
    (a : xw_FL tb (fun j => xw_jn (tm_k f i) (tb j) (tb (j + 27))) (27 * (tm_dp f i - 1 - 1)) 27 tb') : xw_TB d part f (i + 1) tb' := by
  intro p hp l hl b hb
  have h27 := (tm_isl_iff.mp hl).1
  rw [tm_dp_s, tm_tn_2 h5 h9] at hp
  rw [tm_sv_cb h5 h9]
  by_cases z : p + 2 = tm_dp f i
  · rw [if_pos z, xw_FL_y a (by omega)]
    rw [xw_jn_b _ _ _ hb, w p (by omega) l hl b hb, show 27 * p + l + 27 = 27 * (p + 1) + l by omega, w (p + 1) (by omega) l hl b hb]
  · rw [if_neg z, xw_FL_n a (by omega)]; exact w p (by omega) l hl b hb
theorem xw_TB_qt {d part : Nat} {f : tm_F} {i kk aa : Nat} {tb tb' : Nat → Int64} (ek : tm_k f i = kk) (ea : tm_a f i = aa) (h9 : 9 ≤ kk) (w : xw_TB d part f i tb) (h1 : 1 ≤ tm_dp f i)
    (a : xw_AT d (27 * (tm_dp f i - 1)) 27 (fun b l => tm_qt d kk aa (fun e => tm_sv d (64 * part + b) f i (tm_dp f i - 1) (tm_wt l (aa % 3) e))) tb tb') : xw_TB d part f (i + 1) tb' := by
  subst ek ea
  intro p hp l hl b hb
  have h27 := (tm_isl_iff.mp hl).1
  rw [tm_dp_s, tm_tn_1 (Or.inr h9)] at hp
  rw [tm_sv_qt h9]
  by_cases z : p + 1 = tm_dp f i
  · have zp : tm_dp f i - 1 = p := by omega
    rw [zp] at a
    rw [if_pos z]; exact a.2 l h27 hl b hb
  · rw [if_neg z, a.1 _ (by omega)]; exact w p (by omega) l hl b hb
def xw_SL (kd ag : Nat → Int32) (o : Nat) (f : tm_F) : Prop := o + f.1 ≤ 288 ∧ ∀ i, i < f.1 → kd (o + i) = f.2.1 i ∧ ag (o + i) = f.2.2 i
section
variable {fh fa fe fk fs fd : Int32} {kd ag st ln al : Nat → Int32} {mb : Nat → Int64} {im : Nat → Int32} {pr rl rc tb fr hel : Nat → Int64}
theorem xw_wo_7 {post : SX → Prop} {d part o : Nat} {f : tm_F} (h1 : 1 ≤ d) (h3 : d ≤ 3) (L : xw_LP d part pr rl rc) (wf : tm_wf f) (hs : xw_SL kd ag o f)
    (K : ∀ tb fr, xw_TB d part f f.1 tb → post (fh, fa, fe, fk, nI d, nI 1, kd, ag, st, ln, al, mb, im, pr, rl, rc, tb, fr, hel)) :
    ∀ (r i : Nat) (tb fr : Nat → Int64), i + r = f.1 → xw_TB d part f i tb → wX_workOut_7 post (nI o) (nI f.1) (r + 1) (nI (o + i)) fh fa fe fk (nI d) (nI (tm_dp f i)) kd ag st ln al mb im pr rl rc tb fr hel := by
  obtain ⟨ho, hs⟩ := hs
  intro r
  induction r with
  | zero =>
    intro i tb fr h w
    have e : i = f.1 := by omega
    subst e
    rw [wf.2.2]
    exact br_t (by rw [nI_add]; exact nI_le (Nat.le_refl _) (by omega)) (K tb fr w)
  | succ r ih =>
    intro i tb fr h w
    have hi : i < f.1 := by omega
    obtain ⟨⟨kk, hkk, ek, eak⟩, htn⟩ := wf.2.1 i hi
    have e1 : kd (nI (o + i)).toNatClampNeg = nI kk := by rw [nI_clamp (by omega), (hs i hi).1, ek]
    have e2 : ag (nI (o + i)).toNatClampNeg = f.2.2 i := by rw [nI_clamp (by omega), (hs i hi).2]
    have hin : vp_in (nI (o + i)) 288 := vp_in_nI (by omega) (by decide)
    have hk : tm_k f i = kk := tm_kE ek hkk
    have hd12 := tm_dp_12 wf (show i ≤ f.1 by omega)
    rw [hk] at htn
    refine br_f (by rw [nI_add]; exact nI_ge (by omega) (by omega)) ?_
    rw [e1, e2]
    refine ⟨hin, xw_taken hkk ?_⟩
    by_cases c0 : kk < 4
    · obtain ⟨aa, ea, hb⟩ := eak (by omega)
      have ha8 : aa ≤ 8 := by unfold tm_bd at hb; (repeat' split at hb) <;> omega
      rw [tm_tn_0 c0, ea]
      refine br_t rfl ⟨hin, hin, xw_la h3 L c0 hb (by omega) (fun tb' a => nm_r (e' := nI (tm_dp f (i + 1))) ?_ (nm_r (nI_1 _) (ih (i + 1) tb' fr (by omega) (xw_TB_at hk (tm_aE ea ha8) c0 w a))))⟩
      rw [nI_1, tm_dp_s, hk, tm_tn_0 c0, Nat.sub_zero]
    · by_cases c2 : 5 ≤ kk ∧ kk < 9
      · rw [tm_tn_2 c2.1 c2.2] at htn
        rw [tm_tn_2 c2.1 c2.2]
        have ed : nI (tm_dp f i) - 1 = nI (tm_dp f i - 1) := pk_sub (b := 1) (by omega)
        have edp : tm_dp f (i + 1) = tm_dp f i - 1 := by rw [tm_dp_s, hk, tm_tn_2 c2.1 c2.2]; omega
        refine br_f (by decide) (br_t rfl (nm_r ed ⟨hin, xw_join (by omega) (by omega) c2.1 c2.2 (fun tb' a => nm_r (nI_1 _) ?_)⟩))
        have t := ih (i + 1) tb' fr (by omega) (xw_TB_cb (by omega) (by omega) w htn (by rw [hk]; exact a))
        rw [edp] at t
        exact t
      · have htn1 : tm_tn kk = 1 := tm_tn_1 (by omega)
        rw [htn1] at htn
        rw [htn1]
        have edp : tm_dp f (i + 1) = tm_dp f i := by rw [tm_dp_s, hk, htn1]; omega
        refine br_f (by decide) (br_f (by decide) ⟨hin, pk_eq kk 4 (fun z => ?_) (fun z => ⟨hin, hin, ?_⟩)⟩)
        · refine xw_neg htn (by omega) (fun tb' a => nm_r (nI_1 _) ?_)
          have t := ih (i + 1) tb' fr (by omega) (xw_TB_not (by omega) w a)
          rw [edp] at t
          exact t
        · obtain ⟨aa, ea, hb⟩ := eak (by omega)
          have ha8 : aa ≤ 8 := by unfold tm_bd at hb; (repeat' split at hb) <;> omega
          rw [ea]
          refine xw_qu h1 h3 (by omega) hkk hb htn (by omega) (S := fun b l => tm_sv d (64 * part + b) f i (tm_dp f i - 1) l) (fun l hl b hb => w _ (by omega) l hl b hb) (fun tb' fr' a => nm_r (nI_1 _) ?_)
          have t := ih (i + 1) tb' fr' (by omega) (xw_TB_qt hk (tm_aE ea ha8) (by omega) w htn a)
          rw [edp] at t
          exact t
theorem xw_wo {post : SX → Prop} {d part o : Nat} {f : tm_F} (h1 : 1 ≤ d) (h3 : d ≤ 3) (L : xw_LP d part pr rl rc) (wf : tm_wf f) (hs : xw_SL kd ag o f)
    (K : ∀ tb fr, (∀ l, tm_isl d l = true → ∀ b, b < 64 → nb_b (tb l) b = tm_sv d (64 * part + b) f f.1 0 l) → post (fh, fa, fe, fk, nI d, nI 1, kd, ag, st, ln, al, mb, im, pr, rl, rc, tb, fr, hel)) : wpX_workOut post (fh, fa, fe, fk, nI d, fd, kd, ag, st, ln, al, mb, im, pr, rl, rc, tb, fr, hel) (nI o) (nI f.1) := by
  refine ⟨f.1 + 1, xw_wo_7 h1 h3 L wf hs (fun tb fr w => K tb fr (fun l hl b hb => ?_)) f.1 0 tb fr (by omega) (fun p hp => absurd hp (Nat.not_lt_zero p))⟩
  have a := w 0 (by rw [wf.2.2]; omega) l hl b hb
  rw [Nat.mul_zero, Nat.zero_add] at a
  exact a
theorem xw_vo_6 {post : Int64 → Prop} {d : Nat} (h3 : d ≤ 3) {v : Nat → Nat → Bool} (hT : ∀ l, tm_isl d l = true → ∀ b, b < 64 → nb_b (tb l) b = v b l)
    (K : ∀ r, (∀ b, b < 64 → nb_b r b = tm_al (fun l => !tm_isl d l || v b l) 27) → post r) :
    ∀ (r i : Nat) (x : Int64), i + r = 27 → (∀ b, b < 64 → nb_b x b = tm_al (fun l => !tm_isl d l || v b l) i) → wX_validOnes_6 post fh fa fe fk (nI d) fd kd ag st ln al mb im pr rl rc tb fr hel (r + 1) x (nI i) := by
  intro r
  induction r with
  | zero =>
    intro i x h w
    have e : i = 27 := by omega
    subst e
    exact br_t (nI_le (a := 27) (b := 27) (Nat.le_refl _) (by decide)) (K x w)
  | succ r ih =>
    intro i x h w
    refine br_f (nI_ge (b := 27) (by omega) (by decide)) (xw_isl h3 (by omega) (fun hi => br_f (by decide) ⟨vp_in_nI (by omega) (by decide), nm_r (e' := x &&& tb i) (by rw [nI_clamp (by omega)]) (nm_r (nI_1 i) (ih (i + 1) _ (by omega) (fun b hb => ?_)))⟩) (fun hi => br_t rfl (nm_r (nI_1 i) (ih (i + 1) x (by omega) (fun b hb => ?_)))))
    · show _ = (tm_al (fun l => !tm_isl d l || v b l) i && (!tm_isl d i || v b i))
      rw [nb_and, w b hb, hT i hi b hb, hi, Bool.not_true, Bool.false_or]
    · show _ = (tm_al (fun l => !tm_isl d l || v b l) i && (!tm_isl d i || v b i))
      rw [w b hb, hi, Bool.not_false, Bool.true_or, Bool.and_true]
theorem xw_vo {post : Int64 → Prop} {d : Nat} (h3 : d ≤ 3) {v : Nat → Nat → Bool} (hT : ∀ l, tm_isl d l = true → ∀ b, b < 64 → nb_b (tb l) b = v b l)
    (K : ∀ r, (∀ b, b < 64 → nb_b r b = tm_al (fun l => !tm_isl d l || v b l) 27) → post r) : wpX_validOnes post (fh, fa, fe, fk, nI d, fd, kd, ag, st, ln, al, mb, im, pr, rl, rc, tb, fr, hel) :=
  ⟨28, xw_vo_6 h3 hT K 27 0 (-1) rfl (fun b hb => nb_m1 b hb)⟩
theorem xw_va {post : Int64 → SX → Prop} {d part j : Nat} {f : tm_F} (h1 : 1 ≤ d) (h3 : d ≤ 3) (L : xw_LP d part pr rl rc) (hj : j < 6) (wf : tm_wf f) (hs : xw_SL kd ag (144 + 24 * j) f) (hl : al j = nI f.1)
    (K : ∀ r fd tb fr, (∀ b, b < 64 → nb_b r b = tm_vd d (64 * part + b) f) → post r (fh, fa, fe, fk, nI d, fd, kd, ag, st, ln, al, mb, im, pr, rl, rc, tb, fr, hel)) : wpX_validAxiom post (fh, fa, fe, fk, nI d, fd, kd, ag, st, ln, al, mb, im, pr, rl, rc, tb, fr, hel) (nI j) := by
  have e : (144 : Int32) + 24 * nI j = nI (144 + 24 * j) := by
    have a : (24 : Int32) * nI j = nI (24 * j) := pk_mul 24 j
    rw [a]
    exact nI_add 144 (24 * j)
  have e2 : al (nI j).toNatClampNeg = nI f.1 := by rw [nI_clamp (by omega), hl]
  unfold wpX_validAxiom
  dsimp only
  rw [e, e2]
  exact ⟨vp_in_nI hj (by decide), xw_wo h1 h3 L wf hs (fun tb fr w => xw_vo h3 w (fun r hr => K r _ tb fr hr))⟩
/-- the axioms as they lie -/
def xw_AX (na : Nat) (T : Nat → tm_F) (kd ag al : Nat → Int32) : Prop := ∀ j, j < na → al j = nI (T j).1 ∧ xw_SL kd ag (144 + 24 * j) (T j) ∧ tm_wf (T j)
theorem tm_al_mono {g : Nat → Bool} {i n : Nat} (h : i ≤ n) (a : tm_al g i = false) : tm_al g n = false := by
  cases e : tm_al g n
  · rfl
  · have := (tm_al_iff g i).mpr (fun j hj => (tm_al_iff g n).mp e j (by omega))
    rw [a] at this
    exact nomatch this
theorem xw_mh_8 {post : Int64 → SX → Prop} {d part na : Nat} {T : Nat → tm_F} {wo : Int32} {wb : Nat → Bool} (h1 : 1 ≤ d) (h3 : d ≤ 3) (L : xw_LP d part pr rl rc) (hna : na ≤ 6) (AX : xw_AX na T kd ag al)
    (K : ∀ r fd tb fr, (∀ b, b < 64 → nb_b r b = (wb b && tm_ft d na T wo (64 * part + b))) → post r (fh, nI na, fe, fk, nI d, fd, kd, ag, st, ln, al, mb, im, pr, rl, rc, tb, fr, hel)) :
    ∀ (r i : Nat) (x : Int64) (fd : Int32) (tb fr : Nat → Int64), i + r = na → (∀ b, b < 64 → nb_b x b = (wb b && tm_al (fun j => decide (nI j = wo) || tm_vd d (64 * part + b) (T j)) i)) → wX_modelsHere_8 post wo (r + 1) x (nI i) fh (nI na) fe fk (nI d) fd kd ag st ln al mb im pr rl rc tb fr hel := by
  intro r
  induction r with
  | zero =>
    intro i x fd tb fr h w
    have e : i = na := by omega
    subst e
    exact br_t (nI_le (Nat.le_refl _) (by omega)) (K x fd tb fr w)
  | succ r ih =>
    intro i x fd tb fr h w
    obtain ⟨a1, a2, a3⟩ := AX i (by omega)
    refine br_f (nI_ge (by omega) (by omega)) (br_c (fun hx => K x fd tb fr (fun b hb => ?_)) (fun hx => br_c (fun hw => nm_r (nI_1 i) (ih (i + 1) x fd tb fr (by omega) (fun b hb => ?_))) (fun hw => xw_va h1 h3 L (by omega) a3 a2 a1 (fun r' fd' tb' fr' hr => nm_e (nm_r (nI_1 i) (ih (i + 1) _ fd' tb' fr' (by omega) (fun b hb => ?_)))))))
    · have a := w b hb
      have z : nb_b x b = false := by rw [hx]; exact nb_0 b
      rw [z] at a
      rw [z]
      cases c : wb b
      · rfl
      · rw [c, Bool.true_and] at a
        rw [Bool.true_and]
        unfold tm_ft
        exact (tm_al_mono (show i ≤ na by omega) a.symm).symm
    · show _ = (wb b && (tm_al (fun j => decide (nI j = wo) || tm_vd d (64 * part + b) (T j)) i && (decide (nI i = wo) || tm_vd d (64 * part + b) (T i))))
      rw [w b hb, decide_eq_true hw, Bool.true_or, Bool.and_true]
    · show _ = (wb b && (tm_al (fun j => decide (nI j = wo) || tm_vd d (64 * part + b) (T j)) i && (decide (nI i = wo) || tm_vd d (64 * part + b) (T i))))
      rw [nb_and, w b hb, hr b hb, decide_eq_false hw, Bool.false_or, Bool.and_assoc]
theorem xw_mh {post : Int64 → SX → Prop} {d part na : Nat} {T : Nat → tm_F} {wo : Int32} (h1 : 1 ≤ d) (h3 : d ≤ 3) (hp : part < tm_pt d) (L : xw_LP d part pr rl rc) (hna : na ≤ 6) (AX : xw_AX na T kd ag al)
    (K : ∀ r fd tb fr, (∀ b, b < 64 → nb_b r b = (decide (64 * part + b < tm_NN d) && tm_ft d na T wo (64 * part + b))) → post r (fh, nI na, fe, fk, nI d, fd, kd, ag, st, ln, al, mb, im, pr, rl, rc, tb, fr, hel)) : wpX_modelsHere post (fh, nI na, fe, fk, nI d, fd, kd, ag, st, ln, al, mb, im, pr, rl, rc, tb, fr, hel) (nI d) wo := by
  unfold wpX_modelsHere
  dsimp only
  refine xw_whole h1 h3 hp (fun q hq => ⟨na + 1, xw_mh_8 h1 h3 L hna AX K na 0 q fd tb fr (by omega) (fun b hb => ?_)⟩)
  rw [hq b hb]
  exact (Bool.and_true _).symm
end
end
section
/-! find, models, isModel, next, forced of the component -/
theorem tm_pt_NN {d : Nat} (h1 : 1 ≤ d) (h3 : d ≤ 3) : tm_NN d ≤ 64 * tm_pt d := by
  refine tm_d3 (P := fun d => tm_NN d ≤ 64 * tm_pt d) h1 h3 ?_ ?_ ?_ <;> decide
theorem tm_pt_le (d : Nat) : tm_pt d ≤ 64 := by unfold tm_pt; split <;> omega
theorem tm_mo_n {d na : Nat} {T : Nat → tm_F} {m : Nat} (h : tm_NN d ≤ m) : tm_mo d na T m = false := by
  unfold tm_mo; rw [decide_eq_false (by omega), Bool.false_and]
theorem tm_mo_y {d na : Nat} {T : Nat → tm_F} {m : Nat} (h : m < tm_NN d) : tm_mo d na T m = tm_ft d na T (-1) m := by
  unfold tm_mo; rw [decide_eq_true h, Bool.true_and]
/-- counting over the whole parts is counting over the interpretations -/
theorem tm_cN {N M : Nat} {g f : Nat → Bool} (h : N ≤ M) (hy : ∀ m, m < N → g m = f m) (hn : ∀ m, N ≤ m → g m = false) : tm_ct g M = tm_ct f N := by
  rw [tm_ct_cut g h (fun i a _ => hn i a)]
  exact tm_ct_congr hy
def xw_MB (d na : Nat) (T : Nat → tm_F) (mb : Nat → Int64) : Prop := ∀ q, q < 64 → ∀ b, b < 64 → nb_b (mb q) b = tm_mo d na T (64 * q + b)
def xw_KN (d na : Nat) (T : Nat → tm_F) (fk : Int32) (mb : Nat → Int64) : Prop := ¬ fk = 0 → xw_MB d na T mb
theorem xi_64 (q j : Nat) : (64 : Int32) * nI q + nI j = nI (64 * q + j) := by
  have h : (64 : Int32) * nI q = nI (64 * q) := pk_mul 64 q
  rw [h, nI_add]
theorem xi_s6 {m : Nat} (h : m < 2 ^ 31) : nI m >>> ((6 : Int32) &&& 31) = nI (m / 64) := pk_shrN h ((6 : Int32) &&& 31) 6 (by decide)
theorem xi_a63 {m : Nat} (h : m < 2 ^ 31) : nI m &&& 63 = nI (m % 64) := pk_andN (by omega) (k := 6) (by decide)
theorem xi_e1 {k : Nat} (h : 1 ≤ k) : nI k - 1 = nI (k - 1) := pk_sub (b := 1) h
theorem xi_e2 {k : Nat} (h : 2 ≤ k) : nI k - 2 = nI (k - 2) := pk_sub (b := 2) h
theorem nb_first (g : Nat → Bool) (n : Nat) : (∀ i, i < n → g i = false) ∨ ∃ j, j < n ∧ g j = true ∧ ∀ i, i < j → g i = false := by
  induction n with
  | zero => exact Or.inl (fun i h => absurd h (Nat.not_lt_zero i))
  | succ n ih =>
    rcases ih with ih | ⟨j, h1, h2, h3⟩
    · cases c : g n
      · refine Or.inl (fun i hi => ?_)
        rcases Nat.lt_or_ge i n with z | z
        · exact ih i z
        · have : i = n := by omega
          subst this; exact c
      · exact Or.inr ⟨n, by omega, c, ih⟩
    · exact Or.inr ⟨j, by omega, h2, h3⟩
section
variable {fh fa fe fk fs fd : Int32} {kd ag st ln al : Nat → Int32} {mb : Nat → Int64} {im : Nat → Int32} {pr rl rc tb fr hel : Nat → Int64}
theorem xw_fi_15 {post : SX → Prop} {d na : Nat} {T : Nat → tm_F} (h1 : 1 ≤ d) (h3 : d ≤ 3) (hna : na ≤ 6) (AX : xw_AX na T kd ag al)
    (K : ∀ mb fs fd pr rl rc tb fr, xw_MB d na T mb → post (fh, nI na, nI d, fk, fs, fd, kd, ag, st, ln, al, mb, im, pr, rl, rc, tb, fr, hel)) :
    ∀ (r q : Nat) (mb : Nat → Int64) (fs fd : Int32) (pr rl rc tb fr : Nat → Int64), q + r = 64 → (∀ p, p < q → ∀ b, b < 64 → nb_b (mb p) b = tm_mo d na T (64 * p + b)) → wX_find_15 post (r + 1) (nI q) fh (nI na) (nI d) fk fs fd kd ag st ln al mb im pr rl rc tb fr hel := by
  intro r
  induction r with
  | zero =>
    intro q mb fs fd pr rl rc tb fr h w
    have e : q = 64 := by omega
    subst e
    exact br_t (nI_le (a := 64) (b := 64) (Nat.le_refl _) (by decide)) (K mb fs fd pr rl rc tb fr w)
  | succ r ih =>
    intro q mb fs fd pr rl rc tb fr h w
    have hq : vp_in (nI q) 64 := vp_in_nI (by omega) (by decide)
    have hpt := tm_pt_le d
    have hN := tm_pt_NN h1 h3
    refine br_f (nI_ge (b := 64) (by omega) (by decide)) ?_
    rw [nI_clamp (show q < 2 ^ 31 by omega)]
    refine ⟨hq, nm_e (xw_parts h3 (pk_le (tm_pt d) q (fun g => nm_r (nI_1 q) (ih (q + 1) _ _ _ _ _ _ _ _ (by omega) ?_)) (fun g => ?_)))⟩
    · intro p hp b hb
      by_cases z : p = q
      · subst z
        rw [pk_uLs, nb_0, tm_mo_n (by omega)]
      · rw [pk_uLn z]; exact w p (by omega) b hb
    · refine xw_lay h3 (by omega) (fun pr rl rc L => xw_mh h1 h3 g L hna AX (fun x fd tb fr hx => ⟨hq, nm_e (nm_r (nI_1 q) (ih (q + 1) _ _ _ _ _ _ _ _ (by omega) ?_))⟩))
      intro p hp b hb
      by_cases z : p = q
      · subst z
        rw [pk_uLs, hx b hb]; rfl
      · rw [pk_uLn z, pk_uLn z]; exact w p (by omega) b hb
theorem xw_find {post : SX → Prop} {d na : Nat} {T : Nat → tm_F} (h1 : 1 ≤ d) (h3 : d ≤ 3) (hna : na ≤ 6) (AX : xw_AX na T kd ag al) (KN : xw_KN d na T fk mb)
    (K : ∀ fk mb fs fd pr rl rc tb fr, ¬ fk = 0 → xw_MB d na T mb → post (fh, nI na, nI d, fk, fs, fd, kd, ag, st, ln, al, mb, im, pr, rl, rc, tb, fr, hel)) : wpX_find post (fh, nI na, nI d, fk, fs, fd, kd, ag, st, ln, al, mb, im, pr, rl, rc, tb, fr, hel) :=
  br_c (fun _ => ⟨65, xw_fi_15 h1 h3 hna AX (fun mb fs fd pr rl rc tb fr M => K 1 mb fs fd pr rl rc tb fr (by decide) M) 64 0 mb fs fd pr rl rc tb fr rfl (fun p hp => absurd hp (Nat.not_lt_zero p))⟩) (fun h => K fk mb fs fd pr rl rc tb fr h (KN h))
theorem xw_mods_8 {post : Int32 → SX → Prop} {d na : Nat} {T : Nat → tm_F} (M : xw_MB d na T mb) (K : post (nI (tm_ct (tm_mo d na T) 4096)) (fh, fa, fe, fk, fs, fd, kd, ag, st, ln, al, mb, im, pr, rl, rc, tb, fr, hel)) :
    ∀ r q : Nat, q + r = 64 → wX_models_8 post fh fa fe fk fs fd kd ag st ln al mb im pr rl rc tb fr hel (r + 1) (nI (tm_ct (tm_mo d na T) (64 * q))) (nI q) := by
  intro r
  induction r with
  | zero =>
    intro q h
    have e : q = 64 := by omega
    subst e
    exact br_t (nI_le (a := 64) (b := 64) (Nat.le_refl _) (by decide)) K
  | succ r ih =>
    intro q h
    refine br_f (nI_ge (b := 64) (by omega) (by decide)) ⟨vp_in_nI (by omega) (by decide), xw_ones (nm_r (e' := nI (tm_ct (tm_mo d na T) (64 * (q + 1)))) ?_ (nm_r (nI_1 q) (ih (q + 1) (by omega))))⟩
    rw [nI_clamp (by omega), nI_add, show 64 * (q + 1) = 64 * q + 64 by omega, tm_ct_add, tm_ct_congr (fun b hb => M q (by omega) b hb)]
theorem xw_models {post : Int32 → SX → Prop} {d na : Nat} {T : Nat → tm_F} (h1 : 1 ≤ d) (h3 : d ≤ 3) (hna : na ≤ 6) (AX : xw_AX na T kd ag al) (KN : xw_KN d na T fk mb)
    (K : ∀ fk mb fs fd pr rl rc tb fr, xw_KN d na T fk mb → post (nI (tm_ct (tm_ft d na T (-1)) (tm_NN d))) (fh, nI na, nI d, fk, fs, fd, kd, ag, st, ln, al, mb, im, pr, rl, rc, tb, fr, hel)) : wpX_models post (fh, nI na, nI d, fk, fs, fd, kd, ag, st, ln, al, mb, im, pr, rl, rc, tb, fr, hel) := by
  unfold wpX_models
  dsimp only
  refine xw_find h1 h3 hna AX KN (fun fk mb fs fd pr rl rc tb fr hk M => ⟨65, xw_mods_8 M ?_ 64 0 rfl⟩)
  have k := K fk mb fs fd pr rl rc tb fr (fun _ => M)
  rw [← tm_cN (g := tm_mo d na T) (tm_NN_le h3) (fun m hm => tm_mo_y hm) (fun m hm => tm_mo_n hm)] at k
  exact k
theorem xw_isModel_y {post : Int32 → SX → Prop} {d na m : Nat} {T : Nat → tm_F} (h1 : 1 ≤ d) (h3 : d ≤ 3) (hna : na ≤ 6) (hm : m < tm_NN d) (AX : xw_AX na T kd ag al) (KN : xw_KN d na T fk mb)
    (K : ∀ fk mb fs fd pr rl rc tb fr, xw_KN d na T fk mb → post (nI (tm_ft d na T (-1) m).toNat) (fh, nI na, nI d, fk, fs, fd, kd, ag, st, ln, al, mb, im, pr, rl, rc, tb, fr, hel)) : wpX_isModel post (fh, nI na, nI d, fk, fs, fd, kd, ag, st, ln, al, mb, im, pr, rl, rc, tb, fr, hel) (nI m) := by
  have h4 := tm_NN_le h3
  unfold wpX_isModel
  dsimp only
  rw [xi_s6 (by omega), xi_a63 (by omega), nI_clamp (show m / 64 < 2 ^ 31 by omega)]
  refine xw_num_y h1 h3 hm (br_f (by decide) (xw_find h1 h3 hna AX KN (fun fk mb fs fd pr rl rc tb fr hk M => ⟨vp_in_nI (by omega) (by decide), ?_⟩)))
  rw [nb_sh _ (show m % 64 < 64 by omega), M (m / 64) (by omega) (m % 64) (by omega), show 64 * (m / 64) + m % 64 = m by omega, tm_mo_y hm]
  exact K fk mb fs fd pr rl rc tb fr (fun _ => M)
theorem xw_isModel_n {post : Int32 → SX → Prop} {d : Nat} {x : Int32} (h1 : 1 ≤ d) (h3 : d ≤ 3) (hm : x < 0 ∨ nI (tm_NN d) ≤ x) (K : post (-1) (fh, fa, nI d, fk, fs, fd, kd, ag, st, ln, al, mb, im, pr, rl, rc, tb, fr, hel)) : wpX_isModel post (fh, fa, nI d, fk, fs, fd, kd, ag, st, ln, al, mb, im, pr, rl, rc, tb, fr, hel) x := by
  unfold wpX_isModel
  dsimp only
  exact xw_num_n h1 h3 hm (br_t rfl K)
/-! next -/
theorem xw_nx_70 {post : Int32 → SX → Prop} {J : Int32 → Prop} {x2 : Int32} {q : Nat} {x4 : Int64} {g : Nat → Bool} (hx : ∀ b, b < 64 → nb_b x4 b = g (64 * q + b))
    (K0 : (∀ b, b < 64 → g (64 * q + b) = false) → J (nI (q + 1))) (K1 : ∀ b, b < 64 → g (64 * q + b) = true → (∀ i, i < b → g (64 * q + i) = false) → post (nI (64 * q + b)) (fh, fa, fe, fk, fs, fd, kd, ag, st, ln, al, mb, im, pr, rl, rc, tb, fr, hel)) : wX_next_70 post J x2 (nI q) x4 fh fa fe fk fs fd kd ag st ln al mb im pr rl rc tb fr hel := by
  unfold wX_next_70
  refine br_c (fun c => nm_r (nI_1 q) (K0 (fun b hb => ?_))) (fun c => ?_)
  · rw [← hx b hb, c]; exact nb_0 b
  · rcases nb_first (nb_b x4) 64 with z | ⟨j, hj, h1, h2⟩
    · exact absurd (nb_z.mpr z) c
    · refine xw_low hj h1 h2 ?_
      rw [xi_64]
      exact K1 j hj (by rw [← hx j hj]; exact h1) (fun i hi => by rw [← hx i (by omega)]; exact h2 i hi)
theorem xw_nx_34 {post : Int32 → SX → Prop} {d na fm : Nat} {T : Nat → tm_F} (h3 : d ≤ 3) (hf : fm < 4096) (M : xw_MB d na T mb)
    (K0 : (∀ j, fm ≤ j → tm_mo d na T j = false) → post (-2) (fh, fa, fe, fk, fs, fd, kd, ag, st, ln, al, mb, im, pr, rl, rc, tb, fr, hel)) (K1 : ∀ m, fm ≤ m → tm_mo d na T m = true → (∀ j, fm ≤ j → j < m → tm_mo d na T j = false) → post (nI m) (fh, fa, fe, fk, fs, fd, kd, ag, st, ln, al, mb, im, pr, rl, rc, tb, fr, hel)) :
    ∀ r q : Nat, q + r = 64 → fm / 64 ≤ q → (∀ j, fm ≤ j → j < 64 * q → tm_mo d na T j = false) → wX_next_34 post (nI fm) fh fa fe fk fs fd kd ag st ln al mb im pr rl rc tb fr hel (r + 1) (nI q) := by
  intro r
  have h4 := tm_NN_le h3
  induction r with
  | zero =>
    intro q h hq w
    have e : q = 64 := by omega
    subst e
    refine br_t (nI_le (a := 64) (b := 64) (Nat.le_refl _) (by decide)) (K0 (fun j hj => ?_))
    rcases Nat.lt_or_ge j 4096 with z | z
    · exact w j hj z
    · exact tm_mo_n (by omega)
  | succ r ih =>
    intro q h hq w
    have key : ∀ x4, (∀ b, b < 64 → nb_b x4 b = (decide (fm ≤ 64 * q + b) && tm_mo d na T (64 * q + b))) → wX_next_70 post (wX_next_34 post (nI fm) fh fa fe fk fs fd kd ag st ln al mb im pr rl rc tb fr hel (r + 1)) (nI fm) (nI q) x4 fh fa fe fk fs fd kd ag st ln al mb im pr rl rc tb fr hel := by
      intro x4 hx
      refine xw_nx_70 (g := fun m => decide (fm ≤ m) && tm_mo d na T m) hx (fun z => ih (q + 1) (by omega) (by omega) (fun j hj hj2 => ?_)) (fun b hb z1 z2 => ?_)
      · rcases Nat.lt_or_ge j (64 * q) with y | y
        · exact w j hj y
        · have a := z (j - 64 * q) (by omega)
          rw [show 64 * q + (j - 64 * q) = j by omega, decide_eq_true hj, Bool.true_and] at a
          exact a
      · rw [Bool.and_eq_true, decide_eq_true_iff] at z1
        refine K1 _ z1.1 z1.2 (fun j hj hj2 => ?_)
        rcases Nat.lt_or_ge j (64 * q) with y | y
        · exact w j hj y
        · have a := z2 (j - 64 * q) (by omega)
          rw [show 64 * q + (j - 64 * q) = j by omega, decide_eq_true hj, Bool.true_and] at a
          exact a
    refine br_f (nI_ge (b := 64) (by omega) (by decide)) ?_
    rw [xi_s6 (by omega), xi_a63 (by omega), nI_clamp (show q < 2 ^ 31 by omega)]
    refine ⟨vp_in_nI (by omega) (by decide), nm_e (pk_eq q (fm / 64) (fun z => nm_e (key _ (fun b hb => ?_))) (fun z => key _ (fun b hb => ?_)))⟩
    · rw [nb_cut _ (by omega) hb, M q (by omega) b hb]
      by_cases y : fm % 64 ≤ b
      · rw [decide_eq_true y, decide_eq_true (by omega)]
      · rw [decide_eq_false y, decide_eq_false (by omega)]
    · rw [M q (by omega) b hb, decide_eq_true (by omega), Bool.true_and]
/-- the first number from i on, fuel n -/
def tm_nx (g : Nat → Bool) : Nat → Nat → Int32
  | 0, _ => -2
  | n + 1, i => if g i then nI i else tm_nx g n (i + 1)
theorem tm_nx_0 {g : Nat → Bool} {n i : Nat} (h : ∀ j, i ≤ j → j < i + n → g j = false) : tm_nx g n i = -2 := by
  induction n generalizing i with
  | zero => rfl
  | succ n ih =>
    show (if g i then nI i else tm_nx g n (i + 1)) = _
    rw [h i (by omega) (by omega)]
    exact ih (fun j a b => h j (by omega) (by omega))
theorem tm_nx_1 {g : Nat → Bool} {n i m : Nat} (h1 : i ≤ m) (h2 : m < i + n) (h : ∀ j, i ≤ j → j < m → g j = false) (hm : g m = true) : tm_nx g n i = nI m := by
  induction n generalizing i with
  | zero => omega
  | succ n ih =>
    show (if g i then nI i else tm_nx g n (i + 1)) = _
    by_cases z : i = m
    · subst z; rw [hm]; rfl
    · rw [h i (by omega) (by omega)]
      exact ih (by omega) (by omega) (fun j a b => h j (by omega) b)
theorem xw_next {post : Int32 → SX → Prop} {d na : Nat} {T : Nat → tm_F} {x : Int32} (h1 : 1 ≤ d) (h3 : d ≤ 3) (hna : na ≤ 6) (AX : xw_AX na T kd ag al) (KN : xw_KN d na T fk mb)
    (K : ∀ fk mb fs fd pr rl rc tb fr, xw_KN d na T fk mb → post (tm_nx (fun m => decide (x < nI m) && tm_ft d na T (-1) m) (tm_NN d) 0) (fh, nI na, nI d, fk, fs, fd, kd, ag, st, ln, al, mb, im, pr, rl, rc, tb, fr, hel)) : wpX_next post (fh, nI na, nI d, fk, fs, fd, kd, ag, st, ln, al, mb, im, pr, rl, rc, tb, fr, hel) x := by
  have h4 := tm_NN_le h3
  have hN1 : 1 ≤ tm_NN d := Nat.two_pow_pos _
  unfold wpX_next
  dsimp only
  refine xw_find h1 h3 hna AX KN (fun fk mb fs fd pr rl rc tb fr hk M => xw_int h1 h3 ?_)
  have k := K fk mb fs fd pr rl rc tb fr (fun _ => M)
  rw [xi_e1 hN1]
  have key : ∀ fm : Nat, fm < tm_NN d → (∀ m, m < tm_NN d → (x < nI m ↔ fm ≤ m)) → ∃ n, wX_next_34 post (nI fm) fh (nI na) (nI d) fk fs fd kd ag st ln al mb im pr rl rc tb fr hel n (nI (fm / 64)) := by
    intro fm hf hx
    refine ⟨_, xw_nx_34 h3 (by omega) M (fun z => ?_) (fun m hm z1 z2 => ?_) (64 - fm / 64) (fm / 64) (by omega) (Nat.le_refl _) (fun j a b => by omega)⟩
    · rw [tm_nx_0 (fun j _ hj => ?_)] at k
      · exact k
      · by_cases y : fm ≤ j
        · have a := z j y
          rw [tm_mo_y (by omega)] at a
          rw [a, Bool.and_false]
        · rw [decide_eq_false (fun q => y ((hx j (by omega)).mp q)), Bool.false_and]
    · have hmN : m < tm_NN d := by
        rcases Nat.lt_or_ge m (tm_NN d) with y | y
        · exact y
        · rw [tm_mo_n y] at z1; exact nomatch z1
      have e : tm_nx (fun m => decide (x < nI m) && tm_ft d na T (-1) m) (tm_NN d) 0 = nI m := by
        refine tm_nx_1 (Nat.zero_le m) (by omega) (fun j _ hj => ?_) ?_
        · by_cases y : fm ≤ j
          · have a := z2 j y hj
            rw [tm_mo_y (by omega)] at a
            rw [a, Bool.and_false]
          · rw [decide_eq_false (fun q => y ((hx j (by omega)).mp q)), Bool.false_and]
        · rw [tm_mo_y hmN] at z1
          rw [z1, decide_eq_true ((hx m hmN).mpr hm)]; rfl
      rw [e] at k
      exact k
  refine br_c (fun hx => br_c (fun h0 => ?_) (fun h0 => ?_)) (fun hx => ?_)
  · obtain ⟨a, ha, rfl⟩ := nI_of (x := x) (Int32.not_lt.mpr h0)
    rw [nI_ltI ha (by omega)] at hx
    refine nm_r (nI_1 a) (nm_r (xi_s6 (by omega)) (key (a + 1) (by omega) (fun m hm => ?_)))
    rw [nI_ltI ha (by omega)]
    omega
  · refine nm_r (e' := nI (0 / 64)) rfl (key 0 (by omega) (fun m hm => ⟨fun _ => Nat.zero_le m, fun _ => ?_⟩))
    exact Int32.lt_of_lt_of_le (Int32.not_le.mp h0) (nI_pos' (by omega))
  · rw [tm_nx_0 (fun j _ hj => ?_)] at k
    · exact k
    · have a : ¬ x < nI j := fun q => hx (Int32.lt_of_lt_of_le q (nI_le (by omega) (by omega)))
      rw [decide_eq_false a, Bool.false_and]
/-! forced -/
def tm_fc (y n : Bool) : Int32 := if y && n then 2 else if y then 1 else if n then 0 else 3
theorem xw_fo_67 {post : Int32 → SX → Prop} {J : Int32 → Int32 → Int32 → Prop} {x1 z0 : Int32} {c : Bool} {q : Nat} {x5 : Int64} {g : Nat → Bool} (hq : q < 64) (hx : ∀ b, b < 64 → nb_b (mb q &&& (x5 ^^^ (-1))) b = g b)
    (K : J z0 (nI (c || tm_an g 64).toNat) (nI (q + 1))) : wX_forced_67 post J x1 (nI c.toNat) (nI q) x5 z0 fh fa fe fk fs fd kd ag st ln al mb im pr rl rc tb fr hel := by
  unfold wX_forced_67
  rw [nI_clamp (show q < 2 ^ 31 by omega)]
  cases c
  · refine br_t rfl ⟨vp_in_nI hq (by decide), br_c (fun z => nm_r (nI_1 q) ?_) (fun z => nm_r (nI_1 q) ?_)⟩
    · rw [Bool.false_or, tm_an_0.mpr (fun b hb => by rw [← hx b hb, z]; exact nb_0 b)] at K
      exact K
    · obtain ⟨b, hb, e⟩ := nb_nz z
      rw [Bool.false_or, (tm_an_iff g 64).mpr ⟨b, hb, by rw [← hx b hb]; exact e⟩] at K
      exact K
  · exact br_f (by decide) (nm_r (nI_1 q) K)
theorem tm_an_add (g : Nat → Bool) (a n : Nat) : tm_an g (a + n) = (tm_an g a || tm_an (fun i => g (a + i)) n) := by
  induction n with
  | zero => exact (Bool.or_false _).symm
  | succ n ih =>
    show (tm_an g (a + n) || g (a + n)) = (tm_an g a || (tm_an (fun i => g (a + i)) n || g (a + n)))
    rw [ih, Bool.or_assoc]
theorem xw_fo_28 {post : Int32 → SX → Prop} {d na dg : Nat} {T : Nat → tm_F} (hdg : dg < 12) (M : xw_MB d na T mb) (K : post (tm_fc (tm_an (fun m => tm_mo d na T m && m.testBit dg) 4096) (tm_an (fun m => tm_mo d na T m && !m.testBit dg) 4096)) (fh, fa, fe, fk, fs, fd, kd, ag, st, ln, al, mb, im, pr, rl, rc, tb, fr, hel)) :
    ∀ r q : Nat, q + r = 64 → wX_forced_28 post (nI dg) fh fa fe fk fs fd kd ag st ln al mb im pr rl rc tb fr hel (r + 1) (nI (tm_an (fun m => tm_mo d na T m && m.testBit dg) (64 * q)).toNat) (nI (tm_an (fun m => tm_mo d na T m && !m.testBit dg) (64 * q)).toNat) (nI q) := by
  intro r
  induction r with
  | zero =>
    intro q h
    have e : q = 64 := by omega
    subst e
    refine br_t (nI_le (a := 64) (b := 64) (Nat.le_refl _) (by decide)) ?_
    unfold tm_fc at K
    revert K
    show (post (if tm_an (fun m => tm_mo d na T m && m.testBit dg) (64 * 64) && tm_an (fun m => tm_mo d na T m && !m.testBit dg) (64 * 64) then 2 else if tm_an (fun m => tm_mo d na T m && m.testBit dg) (64 * 64) then 1 else if tm_an (fun m => tm_mo d na T m && !m.testBit dg) (64 * 64) then 0 else 3) _ → _)
    generalize tm_an (fun m => tm_mo d na T m && m.testBit dg) (64 * 64) = y
    generalize tm_an (fun m => tm_mo d na T m && !m.testBit dg) (64 * 64) = n
    intro K
    cases y
    · refine br_t rfl ?_
      unfold wX_forced_113
      refine br_t rfl ?_
      cases n
      · exact br_t rfl K
      · exact br_f (by decide) K
    · cases n
      · refine br_f (by decide) (br_t rfl ?_)
        unfold wX_forced_113
        exact br_f (by decide) K
      · exact br_f (by decide) (br_f (by decide) K)
  | succ r ih =>
    intro q h
    have t := ih (q + 1) (by omega)
    rw [show 64 * (q + 1) = 64 * q + 64 by omega, tm_an_add, tm_an_add] at t
    revert t
    generalize tm_an (fun m => tm_mo d na T m && m.testBit dg) (64 * q) = y
    generalize tm_an (fun m => tm_mo d na T m && !m.testBit dg) (64 * q) = n
    intro t
    refine br_f (nI_ge (b := 64) (by omega) (by decide)) (xw_digit hdg (by omega) (fun x hx => ?_))
    rw [nI_clamp (show q < 2 ^ 31 by omega)]
    have hx2 : ∀ b, b < 64 → nb_b (mb q &&& (x ^^^ (-1))) b = (tm_mo d na T (64 * q + b) && !(64 * q + b).testBit dg) := by
      intro b hb
      rw [nb_and, nb_not _ hb, M q (by omega) b hb, hx b hb]
    have hx1 : ∀ b, b < 64 → nb_b (mb q &&& x) b = (tm_mo d na T (64 * q + b) && (64 * q + b).testBit dg) := by
      intro b hb
      rw [nb_and, M q (by omega) b hb, hx b hb]
    cases y
    · refine br_t rfl ⟨vp_in_nI (by omega) (by decide), br_c (fun z => ?_) (fun z => ?_)⟩
      · rw [tm_an_0.mpr (fun b hb => by rw [← hx1 b hb, z]; exact nb_0 b)] at t
        exact xw_fo_67 (by omega) hx2 t
      · obtain ⟨b, hb, e⟩ := nb_nz z
        rw [(tm_an_iff (fun i => tm_mo d na T (64 * q + i) && (64 * q + i).testBit dg) 64).mpr ⟨b, hb, by rw [← hx1 b hb]; exact e⟩] at t
        exact xw_fo_67 (by omega) hx2 t
    · exact br_f (by decide) (xw_fo_67 (by omega) hx2 t)
theorem tm_aN {N M : Nat} {g f : Nat → Bool} (h : N ≤ M) (hy : ∀ m, m < N → g m = f m) (hn : ∀ m, N ≤ m → g m = false) : tm_an g M = tm_an f N := by
  cases c : tm_an f N
  · rw [tm_an_0] at c ⊢
    intro i hi
    rcases Nat.lt_or_ge i N with z | z
    · rw [hy i z]; exact c i z
    · exact hn i z
  · rw [tm_an_iff] at c ⊢
    obtain ⟨i, hi, e⟩ := c
    exact ⟨i, by omega, by rw [hy i hi]; exact e⟩
theorem xw_forced_y {post : Int32 → SX → Prop} {d na dg : Nat} {T : Nat → tm_F} (h1 : 1 ≤ d) (h3 : d ≤ 3) (hna : na ≤ 6) (hdg : dg < d + d * d) (AX : xw_AX na T kd ag al) (KN : xw_KN d na T fk mb)
    (K : ∀ fk mb fs fd pr rl rc tb fr, xw_KN d na T fk mb → post (tm_fc (tm_an (fun m => tm_ft d na T (-1) m && m.testBit dg) (tm_NN d)) (tm_an (fun m => tm_ft d na T (-1) m && !m.testBit dg) (tm_NN d))) (fh, nI na, nI d, fk, fs, fd, kd, ag, st, ln, al, mb, im, pr, rl, rc, tb, fr, hel)) : wpX_forced post (fh, nI na, nI d, fk, fs, fd, kd, ag, st, ln, al, mb, im, pr, rl, rc, tb, fr, hel) (nI dg) := by
  have h12 : d + d * d ≤ 12 := by
    refine tm_d3 (P := fun d => d + d * d ≤ 12) h1 h3 ?_ ?_ ?_ <;> decide
  unfold wpX_forced wpX_digits
  dsimp only
  rw [xw_dd]
  refine br_f (nI_pos (by omega)) (br_t (nI_lt hdg (by omega)) (xw_find h1 h3 hna AX KN (fun fk mb fs fd pr rl rc tb fr hk M => ⟨65, xw_fo_28 (by omega) M ?_ 64 0 rfl⟩)))
  have k := K fk mb fs fd pr rl rc tb fr (fun _ => M)
  rw [← tm_aN (g := fun m => tm_mo d na T m && m.testBit dg) (tm_NN_le h3) (fun m hm => by rw [tm_mo_y hm]) (fun m hm => by rw [tm_mo_n hm, Bool.false_and]), ← tm_aN (g := fun m => tm_mo d na T m && !m.testBit dg) (tm_NN_le h3) (fun m hm => by rw [tm_mo_y hm]) (fun m hm => by rw [tm_mo_n hm, Bool.false_and])] at k
  exact k
theorem xw_forced_n {post : Int32 → SX → Prop} {d : Nat} {x : Int32} (h : x < 0 ∨ nI (d + d * d) ≤ x) (K : post (-1) (fh, fa, nI d, fk, fs, fd, kd, ag, st, ln, al, mb, im, pr, rl, rc, tb, fr, hel)) : wpX_forced post (fh, fa, nI d, fk, fs, fd, kd, ag, st, ln, al, mb, im, pr, rl, rc, tb, fr, hel) x := by
  unfold wpX_forced wpX_digits
  dsimp only
  rw [xw_dd]
  exact br_c (fun _ => K) (fun z => br_f (fun q => (Int32.not_lt.mpr (h.resolve_left z)) q) K)
end
end
section
/-! holds, lists, agreeing, follows, alike, independent, smallest of the component -/
def xw_TP (kd ag st ln : Nat → Int32) (s : Nat) (f : tm_F) : Prop := ∃ o, st s = nI o ∧ ln s = nI f.1 ∧ xw_SL kd ag o f
/-- some list tells two formulas apart -/
def tm_df (d m : Nat) (f g : tm_F) : Bool := tm_an (fun l => tm_isl d l && (tm_sv d m f f.1 0 l ^^ tm_sv d m g g.1 0 l)) 27
theorem tm_ct_sub {f g : Nat → Bool} : ∀ n, tm_ct (fun m => f m && g m) n ≤ tm_ct f n ∧ (tm_ct f n = tm_ct (fun m => f m && g m) n ↔ tm_al (fun m => !f m || g m) n = true) := by
  intro n
  induction n with
  | zero => exact ⟨Nat.le_refl _, ⟨fun _ => rfl, fun _ => rfl⟩⟩
  | succ n ih =>
    obtain ⟨a, b⟩ := ih
    have e1 : tm_ct (fun m => f m && g m) (n + 1) = tm_ct (fun m => f m && g m) n + (f n && g n).toNat := rfl
    have e2 : tm_ct f (n + 1) = tm_ct f n + (f n).toNat := rfl
    have e3 : tm_al (fun m => !f m || g m) (n + 1) = (tm_al (fun m => !f m || g m) n && (!f n || g n)) := rfl
    rw [e1, e2, e3, Bool.and_eq_true, ← b]
    have t1 : true.toNat = 1 := rfl
    have t0 : false.toNat = 0 := rfl
    cases f n <;> cases g n <;> simp only [Bool.and_true, Bool.and_false, Bool.not_true, Bool.not_false, Bool.or_true, Bool.or_false, Bool.false_eq_true, and_true, and_false, iff_false, t1, t0] <;> omega
section
variable {fh fa fe fk fs fd : Int32} {kd ag st ln al : Nat → Int32} {mb : Nat → Int64} {im : Nat → Int32} {pr rl rc tb fr hel : Nat → Int64}
theorem xw_ix {h : Nat} (h1 : 1 ≤ h) (h6 : h ≤ 6) : vp_in (nI (h - 1)) 6 := vp_in_nI (by omega) (by decide)
theorem xw_vt {post : Int64 → SX → Prop} {d part h : Nat} {f : tm_F} (h1 : 1 ≤ d) (h3 : d ≤ 3) (L : xw_LP d part pr rl rc) (g1 : 1 ≤ h) (g6 : h ≤ 6) (wf : tm_wf f) (tp : xw_TP kd ag st ln (h - 1) f)
    (K : ∀ r fd tb fr, (∀ b, b < 64 → nb_b r b = tm_vd d (64 * part + b) f) → post r (nI h, fa, fe, fk, nI d, fd, kd, ag, st, ln, al, mb, im, pr, rl, rc, tb, fr, hel)) : wpX_validTop post (nI h, fa, fe, fk, nI d, fd, kd, ag, st, ln, al, mb, im, pr, rl, rc, tb, fr, hel) := by
  obtain ⟨o, e1, e2, hs⟩ := tp
  unfold wpX_validTop
  dsimp only
  rw [xi_e1 g1, nI_clamp (show h - 1 < 2 ^ 31 by omega), e1, e2]
  exact ⟨xw_ix g1 g6, xw_ix g1 g6, xw_wo h1 h3 L wf hs (fun tb fr w => xw_vo h3 w (fun r hr => K r _ tb fr hr))⟩
theorem xw_ag_17 {post : Int32 → SX → Prop} {d na h : Nat} {T : Nat → tm_F} {f : tm_F} (h1 : 1 ≤ d) (h3 : d ≤ 3) (g1 : 1 ≤ h) (g6 : h ≤ 6) (wf : tm_wf f) (tp : xw_TP kd ag st ln (h - 1) f) (M : xw_MB d na T mb)
    (K : ∀ fs fd pr rl rc tb fr, post (nI (tm_ct (fun m => tm_mo d na T m && tm_vd d m f) (64 * tm_pt d))) (nI h, fa, nI d, fk, fs, fd, kd, ag, st, ln, al, mb, im, pr, rl, rc, tb, fr, hel)) :
    ∀ (r q : Nat) (fs fd : Int32) (pr rl rc tb fr : Nat → Int64), q + r = tm_pt d → wX_agreeing_17 post (r + 1) (nI (tm_ct (fun m => tm_mo d na T m && tm_vd d m f) (64 * q))) (nI q) (nI h) fa (nI d) fk fs fd kd ag st ln al mb im pr rl rc tb fr hel := by
  have hpt := tm_pt_le d
  intro r
  induction r with
  | zero =>
    intro q fs fd pr rl rc tb fr h
    have e : q = tm_pt d := by omega
    subst e
    rw [wX_agreeing_17]
    refine xw_parts h3 ?_
    exact br_t (nI_le (Nat.le_refl _) (by omega)) (K fs fd pr rl rc tb fr)
  | succ r ih =>
    intro q fs fd pr rl rc tb fr h
    have hq : vp_in (nI q) 64 := vp_in_nI (by omega) (by decide)
    have es : tm_ct (fun m => tm_mo d na T m && tm_vd d m f) (64 * (q + 1)) = tm_ct (fun m => tm_mo d na T m && tm_vd d m f) (64 * q) + tm_ct (fun b => tm_mo d na T (64 * q + b) && tm_vd d (64 * q + b) f) 64 := by
      rw [show 64 * (q + 1) = 64 * q + 64 by omega, tm_ct_add]
    rw [wX_agreeing_17]
    refine xw_parts h3 ?_
    refine br_f (nI_ge (by omega) (by omega)) ?_
    dsimp only
    rw [nI_clamp (show q < 2 ^ 31 by omega)]
    refine ⟨hq, br_c (fun z => nm_r (nI_1 q) ?_) (fun z => xw_lay h3 (by omega) (fun pr rl rc L => ⟨hq, xw_vt h1 h3 L g1 g6 wf tp (fun x fd tb fr hx => nm_e (xw_ones (nm_r (e' := nI (tm_ct (fun m => tm_mo d na T m && tm_vd d m f) (64 * (q + 1)))) ?_ (nm_r (nI_1 q) (ih (q + 1) _ _ _ _ _ _ _ (by omega))))))⟩))⟩
    · have t := ih (q + 1) fs fd pr rl rc tb fr (by omega)
      have e0 : tm_ct (fun b => tm_mo d na T (64 * q + b) && tm_vd d (64 * q + b) f) 64 = 0 := by
        rw [tm_ct_congr (n := 64) (g := fun _ => false) (fun b hb => by rw [← M q (by omega) b hb, z, nb_0, Bool.false_and])]
        exact tm_ct_cut (fun _ => false) (Nat.zero_le 64) (fun _ _ _ => rfl)
      rw [es, e0, Nat.add_zero] at t
      exact t
    · have e0 : tm_ct (nb_b (mb q &&& x)) 64 = tm_ct (fun b => tm_mo d na T (64 * q + b) && tm_vd d (64 * q + b) f) 64 := tm_ct_congr (fun b hb => by rw [nb_and, M q (by omega) b hb, hx b hb])
      rw [es, nI_add, e0]
theorem xw_agreeing {post : Int32 → SX → Prop} {d na h : Nat} {T : Nat → tm_F} {f : tm_F} (h1 : 1 ≤ d) (h3 : d ≤ 3) (hna : na ≤ 6) (g1 : 1 ≤ h) (g6 : h ≤ 6) (wf : tm_wf f) (tp : xw_TP kd ag st ln (h - 1) f) (AX : xw_AX na T kd ag al) (KN : xw_KN d na T fk mb)
    (K : ∀ fk mb fs fd pr rl rc tb fr, xw_KN d na T fk mb → post (nI (tm_ct (fun m => tm_ft d na T (-1) m && tm_vd d m f) (tm_NN d))) (nI h, nI na, nI d, fk, fs, fd, kd, ag, st, ln, al, mb, im, pr, rl, rc, tb, fr, hel)) : wpX_agreeing post (nI h, nI na, nI d, fk, fs, fd, kd, ag, st, ln, al, mb, im, pr, rl, rc, tb, fr, hel) := by
  unfold wpX_agreeing
  dsimp only
  refine br_f (nI_ne0 (by omega) (by omega)) (xw_find h1 h3 hna AX KN (fun fk mb fs fd pr rl rc tb fr hk M => ⟨tm_pt d + 1, xw_ag_17 h1 h3 g1 g6 wf tp M (fun fs fd pr rl rc tb fr => ?_) (tm_pt d) 0 fs fd pr rl rc tb fr (by omega)⟩))
  have k := K fk mb fs fd pr rl rc tb fr (fun _ => M)
  rw [← tm_cN (g := fun m => tm_mo d na T m && tm_vd d m f) (tm_pt_NN h1 h3) (fun m hm => by rw [tm_mo_y hm]) (fun m hm => by rw [tm_mo_n hm, Bool.false_and])] at k
  exact k
theorem xw_follows {post : Int32 → SX → Prop} {d na h : Nat} {T : Nat → tm_F} {f : tm_F} (h1 : 1 ≤ d) (h3 : d ≤ 3) (hna : na ≤ 6) (g1 : 1 ≤ h) (g6 : h ≤ 6) (wf : tm_wf f) (tp : xw_TP kd ag st ln (h - 1) f) (AX : xw_AX na T kd ag al) (KN : xw_KN d na T fk mb)
    (K : ∀ fk mb fs fd pr rl rc tb fr, xw_KN d na T fk mb → post (nI (tm_al (fun m => !tm_ft d na T (-1) m || tm_vd d m f) (tm_NN d)).toNat) (nI h, nI na, nI d, fk, fs, fd, kd, ag, st, ln, al, mb, im, pr, rl, rc, tb, fr, hel)) : wpX_follows post (nI h, nI na, nI d, fk, fs, fd, kd, ag, st, ln, al, mb, im, pr, rl, rc, tb, fr, hel) := by
  have hN := tm_NN_b h3
  unfold wpX_follows
  dsimp only
  refine br_f (nI_ne0 (by omega) (by omega)) (xw_models h1 h3 hna AX KN (fun fk mb fs fd pr rl rc tb fr KN => xw_agreeing h1 h3 hna g1 g6 wf tp AX KN (fun fk mb fs fd pr rl rc tb fr KN => ?_)))
  have k := K fk mb fs fd pr rl rc tb fr KN
  have c1 := tm_ct_le (tm_ft d na T (-1)) (tm_NN d)
  have c2 := tm_ct_le (fun m => tm_ft d na T (-1) m && tm_vd d m f) (tm_NN d)
  have s := (tm_ct_sub (f := tm_ft d na T (-1)) (g := fun m => tm_vd d m f) (tm_NN d)).2
  refine pk_eq _ _ (fun z => ?_) (fun z => ?_)
  · rw [s.mp z] at k; exact k
  · have e : tm_al (fun m => !tm_ft d na T (-1) m || tm_vd d m f) (tm_NN d) = false := by
      cases c : tm_al (fun m => !tm_ft d na T (-1) m || tm_vd d m f) (tm_NN d)
      · rfl
      · exact absurd (s.mpr c) z
    rw [e] at k; exact k
/-! holds, lists -/
theorem xw_holds_y {post : Int32 → SX → Prop} {d h m l : Nat} {f : tm_F} (h1 : 1 ≤ d) (h3 : d ≤ 3) (g1 : 1 ≤ h) (g6 : h ≤ 6) (wf : tm_wf f) (tp : xw_TP kd ag st ln (h - 1) f) (hm : m < tm_NN d) (hl : l < 27)
    (K1 : tm_isl d l = true → ∀ fs fd pr rl rc tb fr, post (nI (tm_sv d m f f.1 0 l).toNat) (nI h, fa, nI d, fk, fs, fd, kd, ag, st, ln, al, mb, im, pr, rl, rc, tb, fr, hel)) (K0 : tm_isl d l = false → ∀ fs fd pr rl rc tb fr, post (-1) (nI h, fa, nI d, fk, fs, fd, kd, ag, st, ln, al, mb, im, pr, rl, rc, tb, fr, hel)) : wpX_holds post (nI h, fa, nI d, fk, fs, fd, kd, ag, st, ln, al, mb, im, pr, rl, rc, tb, fr, hel) (nI m) (nI l) := by
  have h4 := tm_NN_le h3
  obtain ⟨o, e1, e2, hs⟩ := tp
  unfold wpX_holds
  dsimp only
  rw [xi_s6 (by omega), xi_a63 (by omega), nI_clamp (show l < 2 ^ 31 by omega)]
  refine br_f (nI_ne0 (by omega) (by omega)) (xw_num_y h1 h3 hm (br_f (by decide) (br_f (nI_pos (by omega)) (br_t (nI_lt (b := 27) hl (by decide)) (xw_lay h3 (by omega) (fun pr rl rc L => xw_isl h3 hl (fun z => br_f (by decide) ?_) (fun z => br_t rfl (K0 z _ _ _ _ _ _ _))))))))
  dsimp only
  rw [xi_e1 g1, nI_clamp (show h - 1 < 2 ^ 31 by omega), e1, e2]
  refine ⟨xw_ix g1 g6, xw_ix g1 g6, xw_wo h1 h3 L wf hs (fun tb fr w => ⟨vp_in_nI (by omega) (by decide), ?_⟩)⟩
  rw [nb_sh _ (show m % 64 < 64 by omega), w l z (m % 64) (by omega), show 64 * (m / 64) + m % 64 = m by omega]
  exact K1 z _ _ _ _ _ _ _
theorem xw_holds_n {post : Int32 → SX → Prop} {d h : Nat} {x y : Int32} (h1 : 1 ≤ d) (h3 : d ≤ 3) (g6 : h ≤ 6) (hn : h = 0 ∨ (x < 0 ∨ nI (tm_NN d) ≤ x) ∨ (y < 0 ∨ nI 27 ≤ y))
    (K : post (-1) (nI h, fa, nI d, fk, fs, fd, kd, ag, st, ln, al, mb, im, pr, rl, rc, tb, fr, hel)) : wpX_holds post (nI h, fa, nI d, fk, fs, fd, kd, ag, st, ln, al, mb, im, pr, rl, rc, tb, fr, hel) x y := by
  unfold wpX_holds
  dsimp only
  refine br_c (fun _ => K) (fun hh => ?_)
  rcases hn with hn | hn | hn
  · subst hn; exact absurd rfl hh
  · exact xw_num_n h1 h3 hn (br_t rfl K)
  · rcases pk_ix x (tm_NN_b h3) with z | z | ⟨m, hm, rfl⟩
    · exact xw_num_n h1 h3 (Or.inl z) (br_t rfl K)
    · exact xw_num_n h1 h3 (Or.inr z) (br_t rfl K)
    · exact xw_num_y h1 h3 hm (br_f (by decide) (br_c (fun _ => K) (fun q => br_f (Int32.not_lt.mpr (hn.resolve_left q)) K)))
theorem xw_ls_59 {post : Int32 → SX → Prop} {d m : Nat} {v : Nat → Bool} (h3 : d ≤ 3) (hm : m < 4096) (hT : ∀ l, tm_isl d l = true → nb_b (tb l) (m % 64) = v l)
    (K : post (nI (tm_ct (fun l => tm_isl d l && v l) 27)) (fh, fa, fe, fk, nI d, fd, kd, ag, st, ln, al, mb, im, pr, rl, rc, tb, fr, hel)) :
    ∀ r i : Nat, i + r = 27 → wX_lists_59 post (nI m) fh fa fe fk (nI d) fd kd ag st ln al mb im pr rl rc tb fr hel (r + 1) (nI (tm_ct (fun l => tm_isl d l && v l) i)) (nI i) := by
  intro r
  induction r with
  | zero =>
    intro i h
    have e : i = 27 := by omega
    subst e
    exact br_t (nI_le (a := 27) (b := 27) (Nat.le_refl _) (by decide)) K
  | succ r ih =>
    intro i h
    have t := ih (i + 1) (by omega)
    have es : tm_ct (fun l => tm_isl d l && v l) (i + 1) = tm_ct (fun l => tm_isl d l && v l) i + (tm_isl d i && v i).toNat := rfl
    refine br_f (nI_ge (b := 27) (by omega) (by decide)) ?_
    rw [xi_a63 (by omega), nI_clamp (show i < 2 ^ 31 by omega)]
    refine xw_isl h3 (by omega) (fun z => br_f (by decide) ⟨vp_in_nI (by omega) (by decide), ?_⟩) (fun z => br_t rfl (nm_r (nI_1 i) ?_))
    · rw [nb_sh _ (show m % 64 < 64 by omega), hT i z]
      refine nm_r (e' := nI (tm_ct (fun l => tm_isl d l && v l) (i + 1))) ?_ (nm_r (nI_1 i) t)
      rw [es, z, Bool.true_and, nI_add]
    · rw [es, z] at t
      exact t
theorem xw_lists_y {post : Int32 → SX → Prop} {d h m : Nat} {f : tm_F} (h1 : 1 ≤ d) (h3 : d ≤ 3) (g1 : 1 ≤ h) (g6 : h ≤ 6) (wf : tm_wf f) (tp : xw_TP kd ag st ln (h - 1) f) (hm : m < tm_NN d)
    (K : ∀ fs fd pr rl rc tb fr, post (nI (tm_ct (fun l => tm_isl d l && tm_sv d m f f.1 0 l) 27)) (nI h, fa, nI d, fk, fs, fd, kd, ag, st, ln, al, mb, im, pr, rl, rc, tb, fr, hel)) : wpX_lists post (nI h, fa, nI d, fk, fs, fd, kd, ag, st, ln, al, mb, im, pr, rl, rc, tb, fr, hel) (nI m) := by
  have h4 := tm_NN_le h3
  obtain ⟨o, e1, e2, hs⟩ := tp
  unfold wpX_lists
  dsimp only
  rw [xi_s6 (by omega)]
  refine br_f (nI_ne0 (by omega) (by omega)) (xw_num_y h1 h3 hm (br_f (by decide) (xw_lay h3 (by omega) (fun pr rl rc L => ?_))))
  dsimp only
  rw [xi_e1 g1, nI_clamp (show h - 1 < 2 ^ 31 by omega), e1, e2]
  refine ⟨xw_ix g1 g6, xw_ix g1 g6, xw_wo h1 h3 L wf hs (fun tb fr w => ⟨28, xw_ls_59 h3 (by omega) (fun l z => ?_) (K _ _ _ _ _ _ _) 27 0 rfl⟩)⟩
  rw [w l z (m % 64) (by omega), show 64 * (m / 64) + m % 64 = m by omega]
theorem xw_lists_n {post : Int32 → SX → Prop} {d h : Nat} {x : Int32} (h1 : 1 ≤ d) (h3 : d ≤ 3) (g6 : h ≤ 6) (hn : h = 0 ∨ (x < 0 ∨ nI (tm_NN d) ≤ x)) (K : post (-1) (nI h, fa, nI d, fk, fs, fd, kd, ag, st, ln, al, mb, im, pr, rl, rc, tb, fr, hel)) : wpX_lists post (nI h, fa, nI d, fk, fs, fd, kd, ag, st, ln, al, mb, im, pr, rl, rc, tb, fr, hel) x := by
  unfold wpX_lists
  dsimp only
  refine br_c (fun _ => K) (fun hh => ?_)
  rcases hn with hn | hn
  · subst hn; exact absurd rfl hh
  · exact xw_num_n h1 h3 hn (br_t rfl K)
/-! alike -/
theorem xw_df_82 {post : Int64 → SX → Prop} {d : Nat} {v w : Nat → Nat → Bool} (h3 : d ≤ 3) (hT : ∀ l, tm_isl d l = true → ∀ b, b < 64 → nb_b (tb l) b = v b l) (hH : ∀ l, tm_isl d l = true → ∀ b, b < 64 → nb_b (hel l) b = w b l)
    (K : ∀ x, (∀ b, b < 64 → nb_b x b = tm_an (fun l => tm_isl d l && (w b l ^^ v b l)) 27) → post x (fh, fa, fe, fk, nI d, fd, kd, ag, st, ln, al, mb, im, pr, rl, rc, tb, fr, hel)) :
    ∀ (r i : Nat) (x : Int64), i + r = 27 → (∀ b, b < 64 → nb_b x b = tm_an (fun l => tm_isl d l && (w b l ^^ v b l)) i) → wX_differing_82 post fh fa fe fk (nI d) fd kd ag st ln al mb im pr rl rc tb fr hel (r + 1) x (nI i) := by
  intro r
  induction r with
  | zero =>
    intro i x h hx
    have e : i = 27 := by omega
    subst e
    exact br_t (nI_le (a := 27) (b := 27) (Nat.le_refl _) (by decide)) (K x hx)
  | succ r ih =>
    intro i x h hx
    have es : ∀ b, tm_an (fun l => tm_isl d l && (w b l ^^ v b l)) (i + 1) = (tm_an (fun l => tm_isl d l && (w b l ^^ v b l)) i || (tm_isl d i && (w b i ^^ v b i))) := fun b => rfl
    refine br_f (nI_ge (b := 27) (by omega) (by decide)) ?_
    rw [nI_clamp (show i < 2 ^ 31 by omega)]
    refine xw_isl h3 (by omega) (fun z => br_f (by decide) ⟨vp_in_nI (by omega) (by decide), vp_in_nI (by omega) (by decide), nm_e (nm_r (nI_1 i) (ih (i + 1) _ (by omega) (fun b hb => ?_)))⟩) (fun z => br_t rfl (nm_r (nI_1 i) (ih (i + 1) x (by omega) (fun b hb => ?_))))
    · rw [es, nb_or, nb_xor, hx b hb, hT i z b hb, hH i z b hb, z, Bool.true_and]
    · rw [es, hx b hb, z, Bool.false_and, Bool.or_false]
theorem xw_df_28 {post : Int64 → SX → Prop} {d h part : Nat} {f g : tm_F} (h1 : 1 ≤ d) (h3 : d ≤ 3) (L : xw_LP d part pr rl rc) (g2 : 2 ≤ h) (g6 : h ≤ 6) (wf : tm_wf f) (tp : xw_TP kd ag st ln (h - 1) f) (hT : ∀ l, tm_isl d l = true → ∀ b, b < 64 → nb_b (tb l) b = tm_sv d (64 * part + b) g g.1 0 l)
    (K : ∀ x fd tb fr hel, (∀ b, b < 64 → nb_b x b = tm_df d (64 * part + b) g f) → post x (nI h, fa, fe, fk, nI d, fd, kd, ag, st, ln, al, mb, im, pr, rl, rc, tb, fr, hel)) :
    ∀ (r i : Nat) (hel : Nat → Int64), i + r = 27 → (∀ l, l < i → hel l = tb l) → wX_differing_28 post (nI h) fa fe fk (nI d) fd (r + 1) (nI i) kd ag st ln al mb im pr rl rc tb fr hel := by
  obtain ⟨o, e1, e2, hs⟩ := tp
  intro r
  induction r with
  | zero =>
    intro i hel h hx
    have e : i = 27 := by omega
    subst e
    refine br_t (nI_le (a := 27) (b := 27) (Nat.le_refl _) (by decide)) ?_
    rw [xi_e1 (by omega), nI_clamp (show _ - 1 < 2 ^ 31 by omega), e1, e2]
    refine ⟨xw_ix (by omega) g6, xw_ix (by omega) g6, xw_wo h1 h3 L wf hs (fun tb' fr' w => ⟨28, xw_df_82 h3 w (w := fun b l => tm_sv d (64 * part + b) g g.1 0 l) (fun l z b hb => ?_) (fun x hx2 => K x _ tb' fr' hel hx2) 27 0 0 rfl (fun b hb => nb_0 b)⟩)⟩
    rw [hx l (tm_isl_iff.mp z).1, hT l z b hb]
  | succ r ih =>
    intro i hel h hx
    refine br_f (nI_ge (b := 27) (by omega) (by decide)) ?_
    rw [nI_clamp (show i < 2 ^ 31 by omega)]
    refine ⟨vp_in_nI (by omega) (by decide), vp_in_nI (by omega) (by decide), nm_e (nm_r (nI_1 i) (ih (i + 1) _ (by omega) (fun l hl => ?_)))⟩
    by_cases z : l = i
    · subst z; rw [pk_uLs]
    · rw [pk_uLn z]; exact hx l (by omega)
theorem xw_df {post : Int64 → SX → Prop} {d h part : Nat} {f g : tm_F} (h1 : 1 ≤ d) (h3 : d ≤ 3) (L : xw_LP d part pr rl rc) (g2 : 2 ≤ h) (g6 : h ≤ 6) (wf : tm_wf f) (wg : tm_wf g) (tp : xw_TP kd ag st ln (h - 1) f) (tg : xw_TP kd ag st ln (h - 2) g)
    (K : ∀ x fd tb fr hel, (∀ b, b < 64 → nb_b x b = tm_df d (64 * part + b) g f) → post x (nI h, fa, fe, fk, nI d, fd, kd, ag, st, ln, al, mb, im, pr, rl, rc, tb, fr, hel)) : wpX_differing post (nI h, fa, fe, fk, nI d, fd, kd, ag, st, ln, al, mb, im, pr, rl, rc, tb, fr, hel) := by
  obtain ⟨o, e1, e2, hs⟩ := tg
  unfold wpX_differing
  dsimp only
  rw [xi_e2 g2, nI_clamp (show h - 2 < 2 ^ 31 by omega), e1, e2]
  have hi : vp_in (nI (h - 2)) 6 := vp_in_nI (by omega) (by decide)
  exact ⟨hi, hi, xw_wo h1 h3 L wg hs (fun tb fr w => ⟨28, xw_df_28 h1 h3 L g2 g6 wf tp w K 27 0 hel rfl (fun l hl => absurd hl (Nat.not_lt_zero l))⟩)⟩
theorem xw_al_16 {post : Int32 → SX → Prop} {d na h : Nat} {T : Nat → tm_F} {f g : tm_F} (h1 : 1 ≤ d) (h3 : d ≤ 3) (g2 : 2 ≤ h) (g6 : h ≤ 6) (wf : tm_wf f) (wg : tm_wf g) (tp : xw_TP kd ag st ln (h - 1) f) (tg : xw_TP kd ag st ln (h - 2) g) (M : xw_MB d na T mb)
    (K1 : (∀ m, m < 64 * tm_pt d → (tm_mo d na T m && tm_df d m g f) = false) → ∀ fs fd pr rl rc tb fr hel, post 1 (nI h, fa, nI d, fk, fs, fd, kd, ag, st, ln, al, mb, im, pr, rl, rc, tb, fr, hel)) (K0 : (∃ m, (tm_mo d na T m && tm_df d m g f) = true) → ∀ fs fd pr rl rc tb fr hel, post 0 (nI h, fa, nI d, fk, fs, fd, kd, ag, st, ln, al, mb, im, pr, rl, rc, tb, fr, hel)) :
    ∀ (r q : Nat) (fs fd : Int32) (pr rl rc tb fr hel : Nat → Int64), q + r = tm_pt d → (∀ m, m < 64 * q → (tm_mo d na T m && tm_df d m g f) = false) → wX_alike_16 post (r + 1) (nI q) (nI h) fa (nI d) fk fs fd kd ag st ln al mb im pr rl rc tb fr hel := by
  have hpt := tm_pt_le d
  intro r
  induction r with
  | zero =>
    intro q fs fd pr rl rc tb fr hel h w
    have e : q = tm_pt d := by omega
    subst e
    rw [wX_alike_16]
    refine xw_parts h3 ?_
    exact br_t (nI_le (Nat.le_refl _) (by omega)) (K1 w fs fd pr rl rc tb fr hel)
  | succ r ih =>
    intro q fs fd pr rl rc tb fr hel h w
    have hq : vp_in (nI q) 64 := vp_in_nI (by omega) (by decide)
    have ws : (∀ b, b < 64 → (tm_mo d na T (64 * q + b) && tm_df d (64 * q + b) g f) = false) → ∀ m, m < 64 * (q + 1) → (tm_mo d na T m && tm_df d m g f) = false := by
      intro z m hm
      rcases Nat.lt_or_ge m (64 * q) with y | y
      · exact w m y
      · have a := z (m - 64 * q) (by omega)
        rw [show 64 * q + (m - 64 * q) = m by omega] at a
        exact a
    rw [wX_alike_16]
    refine xw_parts h3 ?_
    refine br_f (nI_ge (by omega) (by omega)) ?_
    dsimp only
    rw [nI_clamp (show q < 2 ^ 31 by omega)]
    refine ⟨hq, br_c (fun z => nm_r (nI_1 q) (ih (q + 1) _ _ _ _ _ _ _ _ (by omega) (ws (fun b hb => ?_)))) (fun z => xw_lay h3 (by omega) (fun pr rl rc L => xw_df h1 h3 L g2 g6 wf wg tp tg (fun x fd tb fr hel hx => ⟨hq, br_c (fun y => nm_r (nI_1 q) (ih (q + 1) _ _ _ _ _ _ _ _ (by omega) (ws (fun b hb => ?_)))) (fun y => K0 ?_ _ _ _ _ _ _ _ _)⟩)))⟩
    · rw [← M q (by omega) b hb, z, nb_0, Bool.false_and]
    · rw [← M q (by omega) b hb, ← hx b hb, Bool.and_comm, ← nb_and, y, nb_0]
    · obtain ⟨b, hb, e⟩ := nb_nz y
      rw [nb_and, hx b hb, M q (by omega) b hb, Bool.and_comm] at e
      exact ⟨_, e⟩
theorem xw_alike {post : Int32 → SX → Prop} {d na h : Nat} {T : Nat → tm_F} {f g : tm_F} (h1 : 1 ≤ d) (h3 : d ≤ 3) (hna : na ≤ 6) (g2 : 2 ≤ h) (g6 : h ≤ 6) (wf : tm_wf f) (wg : tm_wf g) (tp : xw_TP kd ag st ln (h - 1) f) (tg : xw_TP kd ag st ln (h - 2) g) (AX : xw_AX na T kd ag al) (KN : xw_KN d na T fk mb)
    (K : ∀ fk mb fs fd pr rl rc tb fr hel, xw_KN d na T fk mb → post (nI (!tm_an (fun m => tm_ft d na T (-1) m && tm_df d m g f) (tm_NN d)).toNat) (nI h, nI na, nI d, fk, fs, fd, kd, ag, st, ln, al, mb, im, pr, rl, rc, tb, fr, hel)) : wpX_alike post (nI h, nI na, nI d, fk, fs, fd, kd, ag, st, ln, al, mb, im, pr, rl, rc, tb, fr, hel) := by
  have hNN := tm_pt_NN h1 h3
  unfold wpX_alike
  dsimp only
  refine br_t (nI_le (a := 2) g2 (by omega)) (xw_find h1 h3 hna AX KN (fun fk mb fs fd pr rl rc tb fr hk M => ⟨tm_pt d + 1, xw_al_16 h1 h3 g2 g6 wf wg tp tg M (fun z fs fd pr rl rc tb fr hel => ?_) (fun z fs fd pr rl rc tb fr hel => ?_) (tm_pt d) 0 fs fd pr rl rc tb fr hel (by omega) (fun m hm => absurd hm (Nat.not_lt_zero m))⟩))
  · have k := K fk mb fs fd pr rl rc tb fr hel (fun _ => M)
    rw [tm_an_0.mpr (fun m hm => by rw [← tm_mo_y (na := na) hm]; exact z m (by omega))] at k
    exact k
  · obtain ⟨m, hm⟩ := z
    have k := K fk mb fs fd pr rl rc tb fr hel (fun _ => M)
    have hmN : m < tm_NN d := by
      rcases Nat.lt_or_ge m (tm_NN d) with y | y
      · exact y
      · rw [tm_mo_n y] at hm; exact nomatch hm
    rw [(tm_an_iff (fun m => tm_ft d na T (-1) m && tm_df d m g f) (tm_NN d)).mpr ⟨m, hmN, by rw [← tm_mo_y (na := na) hmN]; exact hm⟩] at k
    exact k
theorem xw_alike_n {post : Int32 → SX → Prop} {h : Nat} (g : h < 2) (K : post (-1) (nI h, fa, fe, fk, fs, fd, kd, ag, st, ln, al, mb, im, pr, rl, rc, tb, fr, hel)) : wpX_alike post (nI h, fa, fe, fk, fs, fd, kd, ag, st, ln, al, mb, im, pr, rl, rc, tb, fr, hel) := by
  unfold wpX_alike
  dsimp only
  exact br_f (nI_ge (b := 2) g (by decide)) K
/-! independent -/
theorem xw_in_16 {post : Int32 → SX → Prop} {d na j : Nat} {T : Nat → tm_F} (h1 : 1 ≤ d) (h3 : d ≤ 3) (hna : na ≤ 6) (hj : j < na) (AX : xw_AX na T kd ag al)
    (K0 : (∀ m, m < tm_NN d → (tm_ft d na T (nI j) m && !tm_vd d m (T j)) = false) → ∀ fs fd pr rl rc tb fr, post 0 (fh, nI na, nI d, fk, fs, fd, kd, ag, st, ln, al, mb, im, pr, rl, rc, tb, fr, hel)) (K1 : (∃ m, m < tm_NN d ∧ (tm_ft d na T (nI j) m && !tm_vd d m (T j)) = true) → ∀ fs fd pr rl rc tb fr, post 1 (fh, nI na, nI d, fk, fs, fd, kd, ag, st, ln, al, mb, im, pr, rl, rc, tb, fr, hel)) :
    ∀ (r q : Nat) (fs fd : Int32) (pr rl rc tb fr : Nat → Int64), q + r = tm_pt d → (∀ m, m < tm_NN d → m < 64 * q → (tm_ft d na T (nI j) m && !tm_vd d m (T j)) = false) → wX_independent_16 post (nI j) (r + 1) (nI q) fh (nI na) (nI d) fk fs fd kd ag st ln al mb im pr rl rc tb fr hel := by
  have hpt := tm_pt_le d
  have hNN := tm_pt_NN h1 h3
  obtain ⟨a1, a2, a3⟩ := AX j hj
  intro r
  induction r with
  | zero =>
    intro q fs fd pr rl rc tb fr h w
    have e : q = tm_pt d := by omega
    subst e
    rw [wX_independent_16]
    refine xw_parts h3 ?_
    exact br_t (nI_le (Nat.le_refl _) (by omega)) (K0 (fun m hm => w m hm (by omega)) fs fd pr rl rc tb fr)
  | succ r ih =>
    intro q fs fd pr rl rc tb fr h w
    have ws : (∀ b, b < 64 → 64 * q + b < tm_NN d → (tm_ft d na T (nI j) (64 * q + b) && !tm_vd d (64 * q + b) (T j)) = false) → ∀ m, m < tm_NN d → m < 64 * (q + 1) → (tm_ft d na T (nI j) m && !tm_vd d m (T j)) = false := by
      intro z m hmN hm
      rcases Nat.lt_or_ge m (64 * q) with y | y
      · exact w m hmN y
      · have a := z (m - 64 * q) (by omega)
        rw [show 64 * q + (m - 64 * q) = m by omega] at a
        exact a hmN
    rw [wX_independent_16]
    refine xw_parts h3 ?_
    refine br_f (nI_ge (by omega) (by omega)) (xw_lay h3 (by omega) (fun pr rl rc L => xw_mh h1 h3 (by omega) L hna AX (fun x fd tb fr hx => br_c (fun z => nm_r (nI_1 q) (ih (q + 1) _ _ _ _ _ _ _ (by omega) (ws (fun b hb hN => ?_)))) (fun z => xw_va h1 h3 L (by omega) a3 a2 a1 (fun y fd tb fr hy => nm_e (br_c (fun c => nm_r (nI_1 q) (ih (q + 1) _ _ _ _ _ _ _ (by omega) (ws (fun b hb hN => ?_)))) (fun c => K1 ?_ _ _ _ _ _ _ _)))))))
    · have a := hx b hb
      rw [z, nb_0, decide_eq_true hN, Bool.true_and] at a
      rw [← a, Bool.false_and]
    · have a := congrArg (fun t => nb_b t b) c
      rw [nb_and, hx b hb, hy b hb, decide_eq_true hN, Bool.true_and] at a
      revert a
      cases tm_ft d na T (nI j) (64 * q + b) <;> cases tm_vd d (64 * q + b) (T j) <;> decide
    · apply Classical.byContradiction
      intro hne
      apply c
      apply nb_ext
      intro b hb
      rw [nb_and, hx b hb, hy b hb]
      by_cases hN : 64 * q + b < tm_NN d
      · have a : ¬ (tm_ft d na T (nI j) (64 * q + b) && !tm_vd d (64 * q + b) (T j)) = true := fun e => hne ⟨_, hN, e⟩
        rw [decide_eq_true hN]
        revert a
        cases tm_ft d na T (nI j) (64 * q + b) <;> cases tm_vd d (64 * q + b) (T j) <;> decide
      · rw [decide_eq_false hN]; rfl
theorem xw_indep_y {post : Int32 → SX → Prop} {d na j : Nat} {T : Nat → tm_F} (h1 : 1 ≤ d) (h3 : d ≤ 3) (hna : na ≤ 6) (hj : j < na) (AX : xw_AX na T kd ag al)
    (K : ∀ fs fd pr rl rc tb fr, post (nI (tm_an (fun m => tm_ft d na T (nI j) m && !tm_vd d m (T j)) (tm_NN d)).toNat) (fh, nI na, nI d, fk, fs, fd, kd, ag, st, ln, al, mb, im, pr, rl, rc, tb, fr, hel)) : wpX_independent post (fh, nI na, nI d, fk, fs, fd, kd, ag, st, ln, al, mb, im, pr, rl, rc, tb, fr, hel) (nI j) := by
  unfold wpX_independent
  dsimp only
  refine br_f (nI_pos (by omega)) (br_t (nI_lt hj (by omega)) ⟨tm_pt d + 1, xw_in_16 h1 h3 hna hj AX (fun z fs fd pr rl rc tb fr => ?_) (fun z fs fd pr rl rc tb fr => ?_) (tm_pt d) 0 fs fd pr rl rc tb fr (by omega) (fun m _ hm => absurd hm (Nat.not_lt_zero m))⟩)
  · have k := K fs fd pr rl rc tb fr
    rw [tm_an_0.mpr z] at k
    exact k
  · have k := K fs fd pr rl rc tb fr
    rw [(tm_an_iff _ _).mpr z] at k
    exact k
theorem xw_indep_n {post : Int32 → SX → Prop} {na : Nat} {x : Int32} (h : x < 0 ∨ nI na ≤ x) (K : post (-1) (fh, nI na, fe, fk, fs, fd, kd, ag, st, ln, al, mb, im, pr, rl, rc, tb, fr, hel)) : wpX_independent post (fh, nI na, fe, fk, fs, fd, kd, ag, st, ln, al, mb, im, pr, rl, rc, tb, fr, hel) x := by
  unfold wpX_independent
  dsimp only
  exact br_c (fun _ => K) (fun z => br_f (Int32.not_lt.mpr (h.resolve_left z)) K)
/-! smallest -/
def tm_ex (na : Nat) (T : Nat → tm_F) (d : Nat) : Bool := tm_an (tm_ft d na T (-1)) (tm_NN d)
def tm_sl (na : Nat) (T : Nat → tm_F) : Int32 := if tm_ex na T 1 then 1 else if tm_ex na T 2 then 2 else if tm_ex na T 3 then 3 else 0
theorem xw_sm_9 {post : Int32 → SX → Prop} {J : Int32 → Int32 → Int32 → Int32 → Int32 → Int32 → Int32 → (Nat → Int32) → (Nat → Int32) → (Nat → Int32) → (Nat → Int32) → (Nat → Int32) → (Nat → Int64) → (Nat → Int32) → (Nat → Int64) → (Nat → Int64) → (Nat → Int64) → (Nat → Int64) → (Nat → Int64) → (Nat → Int64) → Prop} {e na : Nat} {T : Nat → tm_F} (h1 : 1 ≤ e) (h3 : e ≤ 3) (hna : na ≤ 6) (AX : xw_AX na T kd ag al)
    (K1 : tm_ex na T e = true → ∀ fs fd pr rl rc tb fr, post (nI e) (fh, nI na, fe, fk, fs, fd, kd, ag, st, ln, al, mb, im, pr, rl, rc, tb, fr, hel)) (K0 : tm_ex na T e = false → ∀ fs fd pr rl rc tb fr, J (nI (e + 1)) fh (nI na) fe fk fs fd kd ag st ln al mb im pr rl rc tb fr hel) :
    ∀ (r q : Nat) (fs fd : Int32) (pr rl rc tb fr : Nat → Int64), q + r = tm_pt e → (∀ m, m < tm_NN e → m < 64 * q → tm_ft e na T (-1) m = false) → wX_smallest_9 post J (nI e) (r + 1) (nI q) fh (nI na) fe fk fs fd kd ag st ln al mb im pr rl rc tb fr hel := by
  have hpt := tm_pt_le e
  have hNN := tm_pt_NN h1 h3
  intro r
  induction r with
  | zero =>
    intro q fs fd pr rl rc tb fr h w
    have z : q = tm_pt e := by omega
    subst z
    rw [wX_smallest_9]
    refine xw_parts h3 ?_
    exact br_t (nI_le (Nat.le_refl _) (by omega)) (nm_r (nI_1 e) (K0 (tm_an_0.mpr (fun m hm => w m hm (by omega))) fs fd pr rl rc tb fr))
  | succ r ih =>
    intro q fs fd pr rl rc tb fr h w
    rw [wX_smallest_9]
    refine xw_parts h3 ?_
    refine br_f (nI_ge (by omega) (by omega)) (xw_lay h3 (by omega) (fun pr rl rc L => xw_mh h1 h3 (by omega) L hna AX (fun x fd tb fr hx => br_c (fun z => nm_r (nI_1 q) (ih (q + 1) _ _ _ _ _ _ _ (by omega) (fun m hmN hm => ?_))) (fun z => K1 ?_ _ _ _ _ _ _ _))))
    · rcases Nat.lt_or_ge m (64 * q) with y | y
      · exact w m hmN y
      · have a := hx (m - 64 * q) (by omega)
        rw [show 64 * q + (m - 64 * q) = m by omega, z, nb_0, decide_eq_true hmN, Bool.true_and] at a
        exact a.symm
    · obtain ⟨b, hb, c⟩ := nb_nz z
      rw [hx b hb, Bool.and_eq_true, decide_eq_true_iff] at c
      exact (tm_an_iff _ _).mpr ⟨_, c.1, c.2⟩
theorem xw_smallest {post : Int32 → SX → Prop} {na : Nat} {T : Nat → tm_F} (hna : na ≤ 6) (AX : xw_AX na T kd ag al) (K : ∀ fs fd pr rl rc tb fr, post (tm_sl na T) (fh, nI na, fe, fk, fs, fd, kd, ag, st, ln, al, mb, im, pr, rl, rc, tb, fr, hel)) : wpX_smallest post (fh, nI na, fe, fk, fs, fd, kd, ag, st, ln, al, mb, im, pr, rl, rc, tb, fr, hel) := by
  have z0 : ∀ e : Nat, ∀ m, m < tm_NN e → m < 64 * 0 → tm_ft e na T (-1) m = false := fun e m _ hm => absurd hm (Nat.not_lt_zero m)
  refine ⟨4, br_f (by decide) ⟨tm_pt 1 + 1, xw_sm_9 (e := 1) (by decide) (by decide) hna AX (fun c fs fd pr rl rc tb fr => ?_) (fun c1 fs fd pr rl rc tb fr => br_f (by decide) ⟨tm_pt 2 + 1, xw_sm_9 (e := 2) (by decide) (by decide) hna AX (fun c fs fd pr rl rc tb fr => ?_) (fun c2 fs fd pr rl rc tb fr => br_f (by decide) ⟨tm_pt 3 + 1, xw_sm_9 (e := 3) (by decide) (by decide) hna AX (fun c fs fd pr rl rc tb fr => ?_) (fun c3 fs fd pr rl rc tb fr => br_t (by decide) ?_) (tm_pt 3) 0 fs fd pr rl rc tb fr (by omega) (z0 3)⟩) (tm_pt 2) 0 fs fd pr rl rc tb fr (by omega) (z0 2)⟩) (tm_pt 1) 0 fs fd pr rl rc tb fr (by omega) (z0 1)⟩⟩
  all_goals have k := K fs fd pr rl rc tb fr
  all_goals unfold tm_sl at k
  · rw [c] at k; exact k
  · rw [c1, c] at k; exact k
  · rw [c1, c2, c] at k; exact k
  · rw [c1, c2, c3] at k; exact k
end
end
section
/-! the reference's small functions -/
/-- a set of lists: the lists (of the domain) for which g holds -/
def yw_PB (d : Nat) (g : Nat → Bool) (x : Int32) : Prop := ∀ l, l < 32 → bt x l = (tm_isl d l && g l)
theorem yw_set_s {x : Int32} {c : Nat → Bool} {i : Nat} (hi : i < 32) (w : ∀ l, l < 32 → bt x l = (decide (l < i) && c l)) (hc : c i = true) : ∀ l, l < 32 → bt (x ||| ((1 : Int32) <<< (nI i &&& 31))) l = (decide (l < i + 1) && c l) := by
  intro l hl
  rw [b_or, nb_s1 hi hl, w l hl]
  by_cases z : l = i
  · subst z
    rw [decide_eq_true (show l < l + 1 by omega), decide_eq_true rfl, hc, Bool.or_true]; rfl
  · rw [decide_eq_false z, Bool.or_false]
    by_cases y : l < i
    · rw [decide_eq_true y, decide_eq_true (by omega)]
    · rw [decide_eq_false y, decide_eq_false (by omega)]
theorem yw_set_n {x : Int32} {c : Nat → Bool} {i : Nat} (w : ∀ l, l < 32 → bt x l = (decide (l < i) && c l)) (hc : c i = false) : ∀ l, l < 32 → bt x l = (decide (l < i + 1) && c l) := by
  intro l hl
  rw [w l hl]
  by_cases z : l = i
  · subst z
    rw [hc, Bool.and_false, Bool.and_false]
  · by_cases y : l < i
    · rw [decide_eq_true y, decide_eq_true (by omega)]
    · rw [decide_eq_false y, decide_eq_false (by omega)]
theorem yw_set_0 {c : Nat → Bool} : ∀ l, l < 32 → bt 0 l = (decide (l < 0) && c l) := fun l _ => by
  rw [b_0, decide_eq_false (Nat.not_lt_zero l), Bool.false_and]
theorem yw_set_27 {x : Int32} {d : Nat} {g : Nat → Bool} (w : ∀ l, l < 32 → bt x l = (decide (l < 27) && (tm_isl d l && g l))) : yw_PB d g x := by
  intro l hl
  rw [w l hl]
  by_cases z : l < 27
  · rw [decide_eq_true z, Bool.true_and]
  · rw [decide_eq_false z, tm_isl_f (by omega)]; rfl
theorem yw_PB_eq {d : Nat} {g g' : Nat → Bool} {x y : Int32} (hx : yw_PB d g x) (hy : yw_PB d g' y) : x = y ↔ ∀ l, tm_isl d l = true → g l = g' l := by
  constructor
  · intro e l hl
    subst e
    have h27 := (tm_isl_iff.mp hl).1
    have a := hx l (by omega)
    rw [hy l (by omega), hl, Bool.true_and, Bool.true_and] at a
    exact a.symm
  · intro h
    apply b_ext
    intro l hl
    rw [hx l hl, hy l hl]
    cases c : tm_isl d l
    · rfl
    · rw [h l c]
theorem xi_dde {d e f : Nat} : nI d + nI d * nI e + nI f = nI (d + d * e + f) := by rw [pk_mul, nI_add, nI_add]
theorem xi_dd12 {d e f : Nat} (h3 : d ≤ 3) (he : e < d) (hf : f < d) : d + d * e + f < 12 := by
  have : d = 1 ∨ d = 2 ∨ d = 3 := by omega
  rcases this with rfl | rfl | rfl <;> omega
section
variable {vd vh va : Int32} {sz ky ay ps : Nat → Int32}
theorem yw_int {post : Int32 → Prop} {d : Nat} (h1 : 1 ≤ d) (h3 : d ≤ 3) (K : post (nI (tm_NN d))) : wpY_interpretations post (nI d, vh, va, sz, ky, ay, ps) := by
  show post ((1 : Int32) <<< ((nI d + nI d * nI d) &&& 31))
  rw [xw_NN h1 h3]
  exact K
theorem yw_num_y {post : Int32 → Prop} {d m : Nat} (h1 : 1 ≤ d) (h3 : d ≤ 3) (hm : m < tm_NN d) (K : post 1) : wpY_isInterpretation post (nI d, vh, va, sz, ky, ay, ps) (nI m) := by
  have hN := tm_NN_b h3
  exact br_f (nI_pos (by omega)) (yw_int h1 h3 (br_f (nI_ge hm hN) K))
theorem yw_num_n {post : Int32 → Prop} {d : Nat} {x : Int32} (h1 : 1 ≤ d) (h3 : d ≤ 3) (hm : x < 0 ∨ nI (tm_NN d) ≤ x) (K : post 0) : wpY_isInterpretation post (nI d, vh, va, sz, ky, ay, ps) x := by
  refine br_c (fun _ => K) (fun hx => yw_int h1 h3 (br_t (hm.resolve_left hx) K))
theorem yw_rel {post : Int32 → Prop} {d m e f : Nat} (h3 : d ≤ 3) (he : e < d) (hf : f < d) (K : post (nI (tm_rl d m e f).toNat)) : wpY_related post (nI d, vh, va, sz, ky, ay, ps) (nI m) (nI e) (nI f) := by
  have h12 := xi_dd12 h3 he hf
  unfold wpY_related
  dsimp only
  unfold tm_rl at K
  rw [xi_dde, nb_m m (by omega)]
  refine br_c (fun c => ?_) (fun c => ?_)
  · rw [nb_o1.mp c] at K; exact K
  · cases z : m.testBit (d + d * e + f)
    · rw [z] at K; exact K
    · exact absurd (nb_o1.mpr z) c
theorem yw_el {post : Int32 → Prop} {l v : Nat} (hl : l < 27) (hv : v < 3) (K : post (nI (tm_el l v))) : wpY_element post (vd, vh, va, sz, ky, ay, ps) (nI l) (nI v) := xw_el hl hv K
theorem yw_isl {post : Int32 → Prop} {d l : Nat} (hd : d ≤ 3) (hl : l < 27) (K1 : tm_isl d l = true → post 1) (K0 : tm_isl d l = false → post 0) : wpY_isList post (nI d, vh, va, sz, ky, ay, ps) (nI l) := by
  refine br_f (nI_pos (by omega)) (br_f (nI_ge (b := 27) hl (by decide)) ?_)
  refine yw_el (v := 0) hl (by decide) (pk_le d (l % 3) (fun h => K0 (tm_isl_f (by omega))) (fun h => ?_))
  refine yw_el (v := 1) hl (by decide) (pk_le d (l / 3 % 3) (fun g => K0 (tm_isl_f (by omega))) (fun g => ?_))
  exact yw_el (v := 2) hl (by decide) (pk_le d (l / 9) (fun q => K0 (tm_isl_f (by omega))) (fun q => K1 (tm_isl_t hl h g q)))
theorem yw_isl_n {post : Int32 → Prop} {x : Int32} (h : x < 0 ∨ nI 27 ≤ x) (K : post 0) : wpY_isList post (vd, vh, va, sz, ky, ay, ps) x :=
  br_c (fun _ => K) (fun z => br_t (h.resolve_left z) K)
theorem yw_all_4 {post : Int32 → Prop} {d : Nat} (h3 : d ≤ 3) (K : ∀ r, yw_PB d (fun _ => true) r → post r) : ∀ (r i : Nat) (x : Int32), i + r = 27 → (∀ l, l < 32 → bt x l = (decide (l < i) && (tm_isl d l && true))) → wY_allLists_4 post (nI d) vh va sz ky ay ps (r + 1) x (nI i) := by
  intro r
  induction r with
  | zero =>
    intro i x h w
    have e : i = 27 := by omega
    subst e
    exact br_t (nI_le (a := 27) (b := 27) (Nat.le_refl _) (by decide)) (K x (yw_set_27 w))
  | succ r ih =>
    intro i x h w
    exact br_f (nI_ge (b := 27) (by omega) (by decide)) (yw_isl h3 (by omega) (fun hi => br_f (by decide) (nm_e (nm_r (nI_1 i) (ih (i + 1) _ (by omega) (yw_set_s (by omega) w (by rw [hi]; rfl)))))) (fun hi => br_t rfl (nm_r (nI_1 i) (ih (i + 1) x (by omega) (yw_set_n w (by rw [hi]; rfl))))))
theorem yw_all {post : Int32 → Prop} {d : Nat} (h3 : d ≤ 3) (K : ∀ r, yw_PB d (fun _ => true) r → post r) : wpY_allLists post (nI d, vh, va, sz, ky, ay, ps) :=
  ⟨28, yw_all_4 h3 K 27 0 0 rfl yw_set_0⟩
theorem xi_wt (l v e : Nat) : nI l + (nI e - nI (tm_el l v)) * nI (tm_pl v) = nI (tm_wt l v e) := by
  have h : tm_pl v * tm_el l v ≤ l := tm_pl_el
  unfold tm_wt
  rw [← nI_add, ← pk_sub h, ← pk_mul, ← pk_mul]
  generalize nI l = a
  generalize nI e = b
  generalize nI (tm_el l v) = c
  generalize nI (tm_pl v) = g
  grind
theorem yw_with {post : Int32 → Prop} {l v e : Nat} (hl : l < 27) (hv : v < 3) (K : post (nI (tm_wt l v e))) : wpY_with post (vd, vh, va, sz, ky, ay, ps) (nI l) (nI v) (nI e) := by
  have key : ∀ z : Int32, z = nI (tm_pl v) → wY_with_19 post (nI l) (nI v) (nI e) z vd vh va sz ky ay ps := by
    intro z hz
    subst hz
    refine yw_el hl hv ?_
    rw [xi_wt]
    exact K
  refine pk_eq v 0 (fun h => key 1 ?_) (fun h => pk_eq v 1 (fun g => key 3 ?_) (fun g => key 9 ?_))
  · subst h; rfl
  · subst g; rfl
  · have : v = 2 := by omega
    subst this; rfl
/-! reaches -/
def yw_RI (d m e n : Nat) (x : Int32) : Prop := bt x e = true ∧ (∀ y, y < 32 → bt x y = true → y < d ∧ tm_rc d m e y = true) ∧
  (∀ y, y < d → tm_rl d m e y = true → 3 * e + y < n → bt x y = true) ∧
  (∀ z y, z < d → y < d → tm_rl d m e z = true → tm_rl d m z y = true → 9 + 3 * z + y < n → bt x y = true)
theorem yw_RI_n {d m e n : Nat} {x : Int32} (h3 : d ≤ 3) (he : e < d) (w : yw_RI d m e n x) (hn : ¬ (n / 3 % 3 < d ∧ n % 3 < d ∧ bt x (n / 3 % 3) = true ∧ tm_rl d m (n / 3 % 3) (n % 3) = true)) : yw_RI d m e (n + 1) x := by
  obtain ⟨w1, w2, w3, w4⟩ := w
  refine ⟨w1, w2, fun y hy g h => ?_, fun z y hz hy g1 g2 h => ?_⟩
  · by_cases c : 3 * e + y < n
    · exact w3 y hy g c
    · have a1 : n / 3 % 3 = e := by omega
      have a2 : n % 3 = y := by omega
      rw [a1, a2] at hn
      exact absurd ⟨he, hy, w1, g⟩ hn
  · by_cases c : 9 + 3 * z + y < n
    · exact w4 z y hz hy g1 g2 c
    · have a1 : n / 3 % 3 = z := by omega
      have a2 : n % 3 = y := by omega
      rw [a1, a2] at hn
      exact absurd ⟨hz, hy, w3 z hz g1 (by omega), g2⟩ hn
theorem yw_RI_s {d m e n : Nat} {x : Int32} (h3 : d ≤ 3) (he : e < d) (w : yw_RI d m e n x) (hx : n / 3 % 3 < d) (hy : n % 3 < d) (hb : bt x (n / 3 % 3) = true) (hr : tm_rl d m (n / 3 % 3) (n % 3) = true) : yw_RI d m e (n + 1) (x ||| ((1 : Int32) <<< (nI (n % 3) &&& 31))) := by
  obtain ⟨w1, w2, w3, w4⟩ := w
  have up : ∀ y, y < 32 → bt x y = true → bt (x ||| ((1 : Int32) <<< (nI (n % 3) &&& 31))) y = true := by
    intro y h32 h
    rw [b_or, h, Bool.true_or]
  have nw : bt (x ||| ((1 : Int32) <<< (nI (n % 3) &&& 31))) (n % 3) = true := by
    rw [b_or, nb_s1 (by omega) (by omega), decide_eq_true rfl, Bool.or_true]
  refine ⟨up e (by omega) w1, fun y h32 h => ?_, fun y h32 g h => ?_, fun z y hz h32 g1 g2 h => ?_⟩
  · rw [b_or, nb_s1 (by omega) h32, Bool.or_eq_true, decide_eq_true_iff] at h
    rcases h with h | h
    · exact w2 y h32 h
    · subst h
      exact ⟨hy, tm_rc_step h3 he hx hy (w2 _ (by omega) hb).2 hr⟩
  · by_cases c : 3 * e + y < n
    · exact up y (by omega) (w3 y h32 g c)
    · have a2 : n % 3 = y := by omega
      rw [a2] at nw ⊢
      exact nw
  · by_cases c : 9 + 3 * z + y < n
    · exact up y (by omega) (w4 z y hz h32 g1 g2 c)
    · have a2 : n % 3 = y := by omega
      rw [a2] at nw ⊢
      exact nw
theorem yw_re_75 {post : Int32 → Prop} {J : Int32 → Int32 → Prop} {x1 x3 x : Int32} {n y : Nat} (K : J (x ||| ((1 : Int32) <<< (nI y &&& 31))) (nI (n + 1))) : wY_reaches_75 post J x1 x3 x (nI n) (nI y) 1 vd vh va sz ky ay ps :=
  br_f (by decide) (nm_e (nm_r (nI_1 n) K))
theorem yw_re_74 {post : Int32 → Prop} {J : Int32 → Int32 → Prop} {x1 x3 x x7 : Int32} {n : Nat} (K : J x (nI (n + 1))) : wY_reaches_74 post J x1 x3 x (nI n) x7 vd vh va sz ky ay ps :=
  br_t rfl (nm_r (nI_1 n) K)
theorem yw_re_8 {post : Int32 → Prop} {d m e f : Nat} (h3 : d ≤ 3) (he : e < d) (hf : f < d) (K : post (nI (tm_rc d m e f).toNat)) : ∀ (r n : Nat) (x : Int32), n + r = 27 → yw_RI d m e n x → wY_reaches_8 post (nI m) (nI f) (nI d) vh va sz ky ay ps (r + 1) x (nI n) := by
  intro r
  induction r with
  | zero =>
    intro n x h w
    have e27 : n = 27 := by omega
    subst e27
    obtain ⟨w1, w2, w3, w4⟩ := w
    have hb : bt x f = tm_rc d m e f := by
      cases c : tm_rc d m e f
      · cases c2 : bt x f
        · rfl
        · rw [(w2 f (by omega) c2).2] at c
          exact nomatch c
      · rcases tm_rc_c c with g | g | ⟨z, hz, g1, g2⟩
        · subst g; exact w1
        · exact w3 f hf g (by omega)
        · exact w4 z f hz hf g1 g2 (by omega)
    refine br_t (nI_le (a := 27) (b := 27) (Nat.le_refl _) (by decide)) ?_
    rw [nb_x x (show f < 32 by omega), hb]
    refine br_c (fun c => ?_) (fun c => ?_)
    · rw [nb_o1.mp c] at K; exact K
    · cases z : tm_rc d m e f
      · rw [z] at K; exact K
      · exact absurd (nb_o1.mpr z) c
  | succ r ih =>
    intro n x h w
    refine br_f (nI_ge (b := 27) (by omega) (by decide)) ⟨xi_n3, xi_n3, nm_r (e' := nI (n / 3 % 3)) (by rw [xi_d3 (by omega), xi_r3 (by omega)]) ⟨xi_n3, nm_r (xi_r3 (by omega)) ?_⟩⟩
    refine pk_le d (n / 3 % 3) (fun g => yw_re_74 (ih (n + 1) x (by omega) (yw_RI_n h3 he w (by omega)))) (fun g => pk_le d (n % 3) (fun g2 => yw_re_74 (ih (n + 1) x (by omega) (yw_RI_n h3 he w (by omega)))) (fun g2 => ?_))
    rw [nb_x x (show n / 3 % 3 < 32 by omega)]
    refine br_c (fun c => yw_rel h3 g g2 ?_) (fun c => yw_re_74 (ih (n + 1) x (by omega) (yw_RI_n h3 he w (fun q => c (nb_o1.mpr q.2.2.1)))))
    cases z : tm_rl d m (n / 3 % 3) (n % 3)
    · refine br_t rfl (yw_re_74 (ih (n + 1) x (by omega) (yw_RI_n h3 he w (fun q => ?_))))
      rw [z] at q
      exact nomatch q.2.2.2
    · exact br_f (by decide) (yw_re_75 (ih (n + 1) _ (by omega) (yw_RI_s h3 he w g g2 (nb_o1.mp c) z)))
theorem yw_reach {post : Int32 → Prop} {d m e f : Nat} (h3 : d ≤ 3) (he : e < d) (hf : f < d) (K : post (nI (tm_rc d m e f).toNat)) : wpY_reaches post (nI d, vh, va, sz, ky, ay, ps) (nI m) (nI e) (nI f) := by
  refine nm_e ⟨28, yw_re_8 h3 he hf K 27 0 _ rfl ⟨?_, fun y hy h => ?_, fun y _ _ h => absurd h (Nat.not_lt_zero _), fun z y _ _ _ _ h => absurd h (Nat.not_lt_zero _)⟩⟩
  · rw [nb_s1 (by omega) (by omega), decide_eq_true rfl]
  · rw [nb_s1 (by omega) hy, decide_eq_true_iff] at h
    subst h
    exact ⟨he, tm_rc_0⟩
end
end
section
/-! the reference's evaluation -/
theorem nb_cb {c : Bool} {P : Int32 → Prop} (h1 : c = true → P 1) (h0 : c = false → P 0) : P (nI c.toNat) := by
  cases c
  · exact h0 rfl
  · exact h1 rfl
theorem nb_narrow (c : Bool) : narrow .boolean (.int (nI c.toNat)) = .int (nI c.toNat) := by
  cases c
  · exact narrow_b0
  · exact narrow_b1


section
variable {vd vh va : Int32} {sz ky ay ps : Nat → Int32}
theorem yw_atom {post : Int32 → Prop} {d m k a l : Nat} (h3 : d ≤ 3) (hk : k < 4) (ha : a ≤ tm_bd k) (hl : tm_isl d l = true) (K : post (nI (tm_at d m k a l).toNat)) : wpY_atom post (nI d, vh, va, sz, ky, ay, ps) (nI k) (nI a) (nI m) (nI l) := by
  have h27 := (tm_isl_iff.mp hl).1
  have ha8 : a ≤ 8 := by unfold tm_bd at ha; (repeat' split at ha) <;> omega
  unfold wpY_atom
  dsimp only
  rw [xi_r3 (show a < 2 ^ 31 by omega), xi_d3 (show a < 2 ^ 31 by omega)]
  refine pk_eq k 0 (fun z => ?_) (fun z => ⟨xi_n3, yw_el h27 (by omega) ⟨xi_n3, yw_el h27 (by omega) ?_⟩⟩)
  · have ha2 : a ≤ 2 := by unfold tm_bd at ha; rw [if_pos z] at ha; exact ha
    refine yw_el h27 (by omega) ?_
    have he := tm_el_lt (v := a) h27
    rw [nb_m m (show tm_el l a < 32 by omega)]
    unfold tm_at at K
    rw [if_pos z] at K
    refine br_c (fun c => ?_) (fun c => ?_)
    · rw [nb_o1.mp c] at K; exact K
    · cases y : m.testBit (tm_el l a)
      · rw [y] at K; exact K
      · exact absurd (nb_o1.mpr y) c
  · have e1 := tm_el_d (v := a / 3) hl
    have e2 := tm_el_d (v := a % 3) hl
    unfold tm_at at K
    rw [if_neg z] at K
    refine pk_eq k 1 (fun y => yw_rel h3 e1 e2 ⟨nb_narrow _, ?_⟩) (fun y => pk_eq k 2 (fun x => pk_eq (tm_el l (a / 3)) (tm_el l (a % 3)) (fun q => ?_) (fun q => ?_)) (fun x => yw_reach h3 e1 e2 ⟨nb_narrow _, ?_⟩))
    · rw [if_pos y] at K; exact K
    · rw [if_neg y, if_pos x, decide_eq_true q] at K; exact K
    · rw [if_neg y, if_pos x, decide_eq_false q] at K; exact K
    · rw [if_neg y, if_neg x] at K; exact K
theorem yw_ats_6 {post : Int32 → Prop} {d m k a : Nat} (h3 : d ≤ 3) (hk : k < 4) (ha : a ≤ tm_bd k) (K : ∀ r, yw_PB d (tm_at d m k a) r → post r) : ∀ (r i : Nat) (x : Int32), i + r = 27 → (∀ l, l < 32 → bt x l = (decide (l < i) && (tm_isl d l && tm_at d m k a l))) → wY_atoms_6 post (nI k) (nI a) (nI m) (nI d) vh va sz ky ay ps (r + 1) x (nI i) := by
  intro r
  induction r with
  | zero =>
    intro i x h w
    have e : i = 27 := by omega
    subst e
    exact br_t (nI_le (a := 27) (b := 27) (Nat.le_refl _) (by decide)) (K x (yw_set_27 w))
  | succ r ih =>
    intro i x h w
    refine br_f (nI_ge (b := 27) (by omega) (by decide)) (yw_isl h3 (by omega) (fun hi => br_f (by decide) (yw_atom h3 hk ha hi ?_)) (fun hi => br_t rfl (nm_r (nI_1 i) (ih (i + 1) x (by omega) (yw_set_n w (by rw [hi]; rfl))))))
    cases c : tm_at d m k a i
    · exact br_t rfl (nm_r (nI_1 i) (ih (i + 1) x (by omega) (yw_set_n w (by rw [c, Bool.and_false]))))
    · exact br_f (by decide) (nm_e (nm_r (nI_1 i) (ih (i + 1) _ (by omega) (yw_set_s (by omega) w (by rw [hi, c]; rfl)))))
theorem yw_ats {post : Int32 → Prop} {d m k a : Nat} (h3 : d ≤ 3) (hk : k < 4) (ha : a ≤ tm_bd k) (K : ∀ r, yw_PB d (tm_at d m k a) r → post r) : wpY_atoms post (nI d, vh, va, sz, ky, ay, ps) (nI k) (nI a) (nI m) :=
  ⟨28, yw_ats_6 h3 hk ha K 27 0 0 rfl yw_set_0⟩
/-! counted -/
theorem yw_co_19 {post : Int32 → Prop} {J : Int32 → Int32 → Prop} {d v ls i : Nat} {x1 x4 : Int32} (h3 : d ≤ 3) (hv : v < 3) (hls : ls ≤ 5) (hi : i < 27)
    (K : ∀ x4', (bt x4' = bt x4 ∧ ¬ (tm_isl d i = true ∧ ls ≤ tm_ct (fun e => bt x1 (tm_wt i v e)) d) ∨ x4' = x4 ||| ((1 : Int32) <<< (nI i &&& 31)) ∧ (tm_isl d i = true ∧ ls ≤ tm_ct (fun e => bt x1 (tm_wt i v e)) d)) → J x4' (nI (i + 1))) :
    ∀ r e : Nat, e + r = d → wY_counted_19 post J x1 (nI v) (nI ls) x4 (nI i) (nI d) vh va sz ky ay ps (r + 1) (nI (tm_ct (fun e => bt x1 (tm_wt i v e)) e)) (nI e) := by
  intro r
  induction r with
  | zero =>
    intro e h
    have z : e = d := by omega
    subst z
    have hc := tm_ct_le (fun z => bt x1 (tm_wt i v z)) e
    refine br_t (nI_le (Nat.le_refl _) (by omega)) (yw_isl h3 hi (fun h1 => br_f (by decide) (pk_lt _ ls (fun h2 => nm_r (nI_1 i) (K x4 (Or.inl ⟨rfl, by omega⟩))) (fun h2 => nm_e (nm_r (nI_1 i) (K _ (Or.inr ⟨rfl, h1, h2⟩)))))) (fun h1 => br_t rfl (nm_r (nI_1 i) (K x4 (Or.inl ⟨rfl, fun q => ?_⟩)))))
    rw [h1] at q
    exact nomatch q.1
  | succ r ih =>
    intro e h
    have hw := tm_wt_lt (v := v) hi (show e < 3 by omega)
    refine br_f (nI_ge (by omega) (by omega)) (yw_with hi hv ?_)
    rw [nb_x x1 (show tm_wt i v e < 32 by omega)]
    exact nm_r (nI_add _ _) (nm_r (nI_1 e) (ih (e + 1) (by omega)))
theorem yw_co_6 {post : Int32 → Prop} {d v ls : Nat} {x1 : Int32} (h3 : d ≤ 3) (hv : v < 3) (hls : ls ≤ 5) (K : ∀ r, yw_PB d (fun l => decide (ls ≤ tm_ct (fun e => bt x1 (tm_wt l v e)) d)) r → post r) :
    ∀ (r i : Nat) (x : Int32), i + r = 27 → (∀ l, l < 32 → bt x l = (decide (l < i) && (tm_isl d l && decide (ls ≤ tm_ct (fun e => bt x1 (tm_wt l v e)) d)))) → wY_counted_6 post x1 (nI v) (nI ls) (nI d) vh va sz ky ay ps (r + 1) x (nI i) := by
  intro r
  induction r with
  | zero =>
    intro i x h w
    have e : i = 27 := by omega
    subst e
    exact br_t (nI_le (a := 27) (b := 27) (Nat.le_refl _) (by decide)) (K x (yw_set_27 w))
  | succ r ih =>
    intro i x h w
    refine br_f (nI_ge (b := 27) (by omega) (by decide)) ⟨d + 1, yw_co_19 h3 hv hls (by omega) (fun x4' q => ih (i + 1) x4' (by omega) ?_) d 0 (by omega)⟩
    rcases q with ⟨q1, q2⟩ | ⟨q1, q2⟩
    · rw [q1]
      refine yw_set_n w ?_
      cases c : tm_isl d i
      · rfl
      · rw [Bool.true_and]
        exact decide_eq_false (fun z => q2 ⟨c, z⟩)
    · rw [q1]
      exact yw_set_s (by omega) w (by rw [q2.1, decide_eq_true q2.2]; rfl)
theorem yw_co {post : Int32 → Prop} {d v ls : Nat} {x1 : Int32} {g : Nat → Bool} (h3 : d ≤ 3) (hv : v < 3) (hls : ls ≤ 5) (hx : yw_PB d g x1) (K : ∀ r, yw_PB d (fun l => decide (ls ≤ tm_ct (fun e => g (tm_wt l v e)) d)) r → post r) : wpY_counted post (nI d, vh, va, sz, ky, ay, ps) x1 (nI v) (nI ls) := by
  refine ⟨28, yw_co_6 h3 hv hls (fun r hr => K r (fun l hl => ?_)) 27 0 0 rfl yw_set_0⟩
  rw [hr l hl]
  cases c : tm_isl d l
  · rfl
  · have e : tm_ct (fun e => bt x1 (tm_wt l v e)) d = tm_ct (fun e => g (tm_wt l v e)) d := by
      refine tm_ct_congr (fun e he => ?_)
      have w := tm_wt_isl (v := v) c he h3
      have w27 := (tm_isl_iff.mp w).1
      show bt x1 _ = _
      rw [hx _ (by omega), w, Bool.true_and]
    dsimp only
    rw [e]
/-! combined -/
theorem yw_cb {post : Int32 → Prop} {d k : Nat} {x y : Int32} {f g : Nat → Bool} (h3 : d ≤ 3) (h5 : 5 ≤ k) (h8 : k < 9) (hx : yw_PB d f x) (hy : yw_PB d g y) (K : ∀ r, yw_PB d (fun l => tm_cb k (f l) (g l)) r → post r) : wpY_combined post (nI d, vh, va, sz, ky, ay, ps) (nI k) x y := by
  refine yw_all h3 (fun q hq => br_f (nI_nlt (b := 5) h5 (by omega)) (pk_lt 7 k (fun z => K _ (fun l hl => ?_)) (fun z => pk_eq k 5 (fun z5 => K _ (fun l hl => ?_)) (fun z5 => pk_eq k 6 (fun z6 => K _ (fun l hl => ?_)) (fun z6 => pk_eq k 7 (fun z7 => K _ (fun l hl => ?_)) (fun z7 => trivial))))))
  all_goals dsimp only
  all_goals unfold tm_cb
  · rw [if_neg (by omega), if_neg (by omega), if_neg (by omega), b_and, nb_inot _ hl, b_xor, hq l hl, hx l hl, hy l hl]
    cases tm_isl d l <;> cases f l <;> cases g l <;> rfl
  · rw [if_pos z5, b_and, hx l hl, hy l hl]
    cases tm_isl d l <;> cases f l <;> cases g l <;> rfl
  · rw [if_neg z5, if_pos z6, b_or, hx l hl, hy l hl]
    cases tm_isl d l <;> cases f l <;> cases g l <;> rfl
  · rw [if_neg z5, if_neg z6, if_pos z7, b_or, b_and, nb_inot _ hl, hq l hl, hx l hl, hy l hl]
    cases tm_isl d l <;> cases f l <;> cases g l <;> rfl
theorem yw_not {d : Nat} {x q : Int32} {f : Nat → Bool} (hq : yw_PB d (fun _ => true) q) (hx : yw_PB d f x) : yw_PB d (fun l => !f l) (q &&& (x ^^^ (-1))) := by
  intro l hl
  rw [b_and, nb_inot _ hl, hq l hl, hx l hl]
  dsimp only
  cases tm_isl d l <;> cases f l <;> rfl
/-- a formula as it lies in a slot -/
def yw_SL (sz ky ay : Nat → Int32) (s : Nat) (f : tm_F) : Prop := sz s = nI f.1 ∧ ∀ i, i < f.1 → ky (24 * s + i) = f.2.1 i ∧ ay (24 * s + i) = f.2.2 i
def yw_PS (d m : Nat) (f : tm_F) (i : Nat) (ps : Nat → Int32) : Prop := ∀ p, p < tm_dp f i → yw_PB d (tm_sv d m f i p) (ps p)
theorem yw_PS_at {d m : Nat} {f : tm_F} {i kk aa : Nat} {ps : Nat → Int32} {x : Int32} (ek : tm_k f i = kk) (ea : tm_a f i = aa) (hk : kk < 4) (w : yw_PS d m f i ps) (a : yw_PB d (tm_at d m kk aa) x) : yw_PS d m f (i + 1) (upd ps (tm_dp f i) x) := by
  subst ek ea
  intro p hp l hl
  rw [tm_dp_s, tm_tn_0 hk] at hp
  rw [tm_sv_at hk]
  by_cases z : p = tm_dp f i
  · subst z
    rw [if_pos rfl, pk_us]; exact a l hl
  · rw [if_neg z, pk_un z]; exact w p (by omega) l hl
theorem yw_PS_not {d m : Nat} {f : tm_F} {i : Nat} {ps : Nat → Int32} {x : Int32} (ek : tm_k f i = 4) (w : yw_PS d m f i ps) (h1 : 1 ≤ tm_dp f i) (a : yw_PB d (fun l => !tm_sv d m f i (tm_dp f i - 1) l) x) : yw_PS d m f (i + 1) (upd ps (tm_dp f i - 1) x) := by
  intro p hp l hl
  rw [tm_dp_s, tm_tn_1 (Or.inl ek)] at hp
  rw [tm_sv_not ek]
  by_cases z : p + 1 = tm_dp f i
  · have zp : tm_dp f i - 1 = p := by omega
    rw [zp] at a ⊢
    rw [if_pos z, pk_us]; exact a l hl
  · rw [if_neg z, pk_un (by omega)]; exact w p (by omega) l hl
theorem yw_PS_cb {d m : Nat} {f : tm_F} {i : Nat} {ps : Nat → Int32} {x : Int32} (h5 : 5 ≤ tm_k f i) (h9 : tm_k f i < 9) (w : yw_PS d m f i ps) (h2 : 2 ≤ tm_dp f i) (a : yw_PB d (fun l => tm_cb (tm_k f i) (tm_sv d m f i (tm_dp f i - 2) l) (tm_sv d m f i (tm_dp f i - 1) l)) x) : yw_PS d m f (i + 1) (upd ps (tm_dp f i - 2) x) := by
  intro p hp l hl
  rw [tm_dp_s, tm_tn_2 h5 h9] at hp
  rw [tm_sv_cb h5 h9]
  by_cases z : p + 2 = tm_dp f i
  · have zp : tm_dp f i - 2 = p := by omega
    have zq : tm_dp f i - 1 = p + 1 := by omega
    rw [zp, zq] at a
    rw [zp, if_pos z, pk_us]; exact a l hl
  · rw [if_neg z, pk_un (by omega)]; exact w p (by omega) l hl
theorem yw_PS_qt {d m : Nat} {f : tm_F} {i kk aa : Nat} {ps : Nat → Int32} {x : Int32} (ek : tm_k f i = kk) (ea : tm_a f i = aa) (h9 : 9 ≤ kk) (w : yw_PS d m f i ps) (h1 : 1 ≤ tm_dp f i) (a : yw_PB d (fun l => decide (tm_ls d kk aa ≤ tm_ct (fun e => tm_sv d m f i (tm_dp f i - 1) (tm_wt l (aa % 3) e)) d)) x) : yw_PS d m f (i + 1) (upd ps (tm_dp f i - 1) x) := by
  subst ek ea
  intro p hp l hl
  rw [tm_dp_s, tm_tn_1 (Or.inr h9)] at hp
  rw [tm_sv_qt h9]
  by_cases z : p + 1 = tm_dp f i
  · have zp : tm_dp f i - 1 = p := by omega
    rw [zp] at a ⊢
    rw [if_pos z, pk_us]; exact a l hl
  · rw [if_neg z, pk_un (by omega)]; exact w p (by omega) l hl
theorem yw_lo_181 {post : Int32 → SY → Prop} {J : Int32 → Int32 → (Nat → Int32) → (Nat → Int32) → (Nat → Int32) → (Nat → Int32) → Prop} {x1 x2 x4 : Int32} {d n i a ls : Nat} {g : Nat → Bool} (h3 : d ≤ 3) (ha : a ≤ 8) (hls : ls ≤ 5) (hn : 1 ≤ n) (hn2 : n ≤ 12) (hx : yw_PB d g (ps (n - 1)))
    (K : ∀ r, yw_PB d (fun l => decide (ls ≤ tm_ct (fun e => g (tm_wt l (a % 3) e)) d)) r → J (nI n) (nI (i + 1)) sz ky ay (upd ps (n - 1) r)) : wY_listsOf_181 post J x1 x2 (nI n) x4 (nI i) (nI a) (nI ls) (nI d) vh va sz ky ay ps := by
  unfold wY_listsOf_181
  rw [xi_e1 hn, nI_clamp (show n - 1 < 2 ^ 31 by omega), xi_r3 (show a < 2 ^ 31 by omega)]
  have hin : vp_in (nI (n - 1)) 25 := vp_in_nI (by omega) (by decide)
  exact ⟨hin, xi_n3, yw_co h3 (by omega) hls hx (fun r hr => ⟨hin, nm_e (nm_r (nI_1 i) (K r hr))⟩)⟩
theorem yw_lo_11 {post : Int32 → SY → Prop} {d m s : Nat} {f : tm_F} {x4 : Int32} (h1 : 1 ≤ d) (h3 : d ≤ 3) (hs : s < 12) (wf : tm_wf f) (sl : yw_SL sz ky ay s f) (h4 : yw_PB d (fun _ => true) x4)
    (K : ∀ ps, yw_PB d (tm_sv d m f f.1 0) (ps 0) → post (ps 0) (nI d, vh, va, sz, ky, ay, ps)) :
    ∀ (r i : Nat) (ps : Nat → Int32), i + r = f.1 → yw_PS d m f i ps → wY_listsOf_11 post (nI s) (nI m) x4 (nI d) vh va (r + 1) (nI (tm_dp f i)) (nI i) sz ky ay ps := by
  obtain ⟨esz, sl⟩ := sl
  intro r
  have hs12 : vp_in (nI s) 12 := vp_in_nI hs (by decide)
  have ez : sz (nI s).toNatClampNeg = nI f.1 := by rw [nI_clamp (by omega), esz]
  have w24 := wf.1
  induction r with
  | zero =>
    intro i ps h w
    have e : i = f.1 := by omega
    subst e
    refine ⟨hs12, ?_⟩
    rw [ez]
    exact br_t (nI_le (Nat.le_refl _) (by omega)) (K ps (w 0 (by rw [wf.2.2]; omega)))
  | succ r ih =>
    intro i ps h w
    have hi : i < f.1 := by omega
    obtain ⟨⟨kk, hkk, ek, eak⟩, htn⟩ := wf.2.1 i hi
    have ei : (24 : Int32) * nI s + nI i = nI (24 * s + i) := xi_24 s i
    have e1 : ky (nI (24 * s + i)).toNatClampNeg = nI kk := by rw [nI_clamp (by omega), (sl i hi).1, ek]
    have e2 : ay (nI (24 * s + i)).toNatClampNeg = f.2.2 i := by rw [nI_clamp (by omega), (sl i hi).2]
    have hin : vp_in (nI (24 * s + i)) 288 := vp_in_nI (by omega) (by decide)
    have hk : tm_k f i = kk := tm_kE ek hkk
    have hd12 := tm_dp_12 wf (show i ≤ f.1 by omega)
    rw [hk] at htn
    refine ⟨hs12, ?_⟩
    rw [ez, ei]
    refine br_f (nI_ge (by omega) (by omega)) ⟨hin, nm_r e1 ⟨hin, nm_r e2 (pk_le 4 kk (fun c4 => pk_eq kk 4 (fun z4 => ?_) (fun z4 => pk_le 9 kk (fun c9 => ?_) (fun c9 => ?_))) (fun c4 => ?_))⟩⟩
    · have htn1 : tm_tn kk = 1 := tm_tn_1 (by omega)
      rw [htn1] at htn
      have edp : tm_dp f (i + 1) = tm_dp f i := by rw [tm_dp_s, hk, htn1]; omega
      rw [xi_e1 htn, nI_clamp (show tm_dp f i - 1 < 2 ^ 31 by omega)]
      have hq : vp_in (nI (tm_dp f i - 1)) 25 := vp_in_nI (by omega) (by decide)
      refine ⟨hq, hq, nm_e (nm_r (nI_1 i) ?_)⟩
      have t := ih (i + 1) _ (by omega) (yw_PS_not (by omega) w htn (yw_not h4 (w _ (by omega))))
      rw [edp] at t
      exact t
    · have htn1 : tm_tn kk = 1 := tm_tn_1 (by omega)
      rw [htn1] at htn
      have edp : tm_dp f (i + 1) = tm_dp f i := by rw [tm_dp_s, hk, htn1]; omega
      obtain ⟨aa, ea, hb⟩ := eak (by omega)
      have ha5 : aa ≤ 5 := by unfold tm_bd at hb; (repeat' split at hb) <;> omega
      have key : ∀ z : Int32, z = nI (tm_ls d kk aa) → tm_ls d kk aa ≤ 5 → wY_listsOf_181 post (wY_listsOf_11 post (nI s) (nI m) x4 (nI d) vh va (r + 1)) (nI s) (nI m) (nI (tm_dp f i)) x4 (nI i) (nI aa) z (nI d) vh va sz ky ay ps := by
        intro z hz h5
        subst hz
        refine yw_lo_181 h3 (by omega) h5 htn (by omega) (w _ (by omega)) (fun q hq => ?_)
        have t := ih (i + 1) _ (by omega) (yw_PS_qt hk (tm_aE ea (by omega)) c9 w htn hq)
        rw [edp] at t
        exact t
      rw [ea]
      refine pk_eq kk 9 (fun z => key _ ?_ ?_) (fun z9 => pk_eq kk 10 (fun z => key _ ?_ ?_) (fun z10 => ⟨xi_n3, key _ ?_ ?_⟩))
      · subst z; rfl
      · subst z; rw [tm_ls_9]; omega
      · subst z; rfl
      · subst z; rw [tm_ls_10]; omega
      · have : kk = 11 := by omega
        subst this
        rw [xi_d3 (by omega), tm_ls_11]
        exact nI_add 2 (aa / 3)
      · have : kk = 11 := by omega
        subst this
        rw [tm_ls_11]; omega
    · have htn2 : tm_tn kk = 2 := tm_tn_2 (by omega) (by omega)
      rw [htn2] at htn
      have edp : tm_dp f (i + 1) = tm_dp f i - 1 := by rw [tm_dp_s, hk, htn2]; omega
      rw [xi_e1 (by omega), xi_e2 htn, nI_clamp (show tm_dp f i - 1 < 2 ^ 31 by omega), nI_clamp (show tm_dp f i - 2 < 2 ^ 31 by omega)]
      have hq : vp_in (nI (tm_dp f i - 2)) 25 := vp_in_nI (by omega) (by decide)
      refine ⟨hq, vp_in_nI (by omega) (by decide), yw_cb h3 (by omega) (by omega) (w (tm_dp f i - 2) (by omega)) (w (tm_dp f i - 1) (by omega)) (fun q hr => ⟨hq, nm_e (nm_r (e' := nI (tm_dp f i - 1)) ?_ (nm_r (nI_1 i) ?_))⟩)⟩
      · have t := pk_m1 (tm_dp f i - 1)
        rw [show tm_dp f i - 1 + 1 = tm_dp f i by omega] at t
        exact t
      · have t := ih (i + 1) _ (by omega) (yw_PS_cb (by omega) (by omega) w htn (by rw [hk]; exact hr))
        rw [edp] at t
        exact t
    · obtain ⟨aa, ea, hb⟩ := eak (by omega)
      have ha8 : aa ≤ 8 := by unfold tm_bd at hb; (repeat' split at hb) <;> omega
      rw [ea, nI_clamp (show tm_dp f i < 2 ^ 31 by omega)]
      refine yw_ats h3 c4 hb (fun q hq => ⟨vp_in_nI (by omega) (by decide), nm_e (nm_r (e' := nI (tm_dp f (i + 1))) ?_ (nm_r (nI_1 i) (ih (i + 1) _ (by omega) (yw_PS_at hk (tm_aE ea ha8) c4 w hq))))⟩)
      rw [nI_1, tm_dp_s, hk, tm_tn_0 c4, Nat.sub_zero]
theorem yw_lo {post : Int32 → SY → Prop} {d m s : Nat} {f : tm_F} (h1 : 1 ≤ d) (h3 : d ≤ 3) (hs : s < 12) (wf : tm_wf f) (sl : yw_SL sz ky ay s f)
    (K : ∀ x ps, yw_PB d (tm_sv d m f f.1 0) x → post x (nI d, vh, va, sz, ky, ay, ps)) : wpY_listsOf post (nI d, vh, va, sz, ky, ay, ps) (nI s) (nI m) := by
  unfold wpY_listsOf
  dsimp only
  exact yw_all h3 (fun q hq => ⟨f.1 + 1, yw_lo_11 h1 h3 hs wf sl hq (fun ps w => K _ ps w) f.1 0 ps (by omega) (fun p hp => absurd hp (Nat.not_lt_zero p))⟩)
theorem yw_iv {post : Int32 → SY → Prop} {d m s : Nat} {f : tm_F} (h1 : 1 ≤ d) (h3 : d ≤ 3) (hs : s < 12) (wf : tm_wf f) (sl : yw_SL sz ky ay s f)
    (K : ∀ ps, post (nI (tm_vd d m f).toNat) (nI d, vh, va, sz, ky, ay, ps)) : wpY_isValid post (nI d, vh, va, sz, ky, ay, ps) (nI s) (nI m) := by
  unfold wpY_isValid
  dsimp only
  refine yw_lo h1 h3 hs wf sl (fun x ps hx => yw_all h3 (fun q hq => br_c (fun c => ?_) (fun c => ?_)))
  · have e : tm_vd d m f = true := tm_vd_iff.mpr ((yw_PB_eq hx hq).mp c)
    have k := K ps
    rw [e] at k
    exact k
  · have e : tm_vd d m f = false := by
      cases z : tm_vd d m f
      · rfl
      · exact absurd ((yw_PB_eq hx hq).mpr (tm_vd_iff.mp z)) c
    have k := K ps
    rw [e] at k
    exact k
/-- the axioms as they lie -/
def yw_AX (na : Nat) (T : Nat → tm_F) (sz ky ay : Nat → Int32) : Prop := ∀ j, j < na → yw_SL sz ky ay (6 + j) (T j) ∧ tm_wf (T j)
theorem yw_ft_2 {post : Int32 → SY → Prop} {d m na : Nat} {T : Nat → tm_F} {wo : Int32} (h1 : 1 ≤ d) (h3 : d ≤ 3) (hna : na ≤ 6) (AX : yw_AX na T sz ky ay)
    (K : ∀ ps, post (nI (tm_ft d na T wo m).toNat) (nI d, vh, nI na, sz, ky, ay, ps)) :
    ∀ (r i : Nat) (ps : Nat → Int32), i + r = na → tm_al (fun j => decide (nI j = wo) || tm_vd d m (T j)) i = true → wY_fits_2 post (nI m) wo (r + 1) (nI i) (nI d) vh (nI na) sz ky ay ps := by
  intro r
  induction r with
  | zero =>
    intro i ps h w
    have e : i = na := by omega
    subst e
    have k := K ps
    unfold tm_ft at k
    rw [w] at k
    exact br_t (nI_le (Nat.le_refl _) (by omega)) k
  | succ r ih =>
    intro i ps h w
    obtain ⟨a1, a2⟩ := AX i (by omega)
    have e6 : (6 : Int32) + nI i = nI (6 + i) := nI_add 6 i
    refine br_f (nI_ge (by omega) (by omega)) (br_c (fun hw => nm_r (nI_1 i) (ih (i + 1) ps (by omega) ?_)) (fun hw => ?_))
    · show (tm_al (fun j => decide (nI j = wo) || tm_vd d m (T j)) i && (decide (nI i = wo) || tm_vd d m (T i))) = true
      rw [w, decide_eq_true hw]; rfl
    · rw [e6]
      refine yw_iv h1 h3 (by omega) a2 a1 (fun ps' => ?_)
      cases c : tm_vd d m (T i)
      · refine br_t rfl ?_
        have e : tm_ft d na T wo m = false := by
          cases z : tm_ft d na T wo m
          · rfl
          · rw [tm_ft_iff.mp z i (by omega) hw] at c
            exact nomatch c
        have k := K ps'
        rw [e] at k
        exact k
      · refine br_f (by decide) (nm_r (nI_1 i) (ih (i + 1) ps' (by omega) ?_))
        show (tm_al (fun j => decide (nI j = wo) || tm_vd d m (T j)) i && (decide (nI i = wo) || tm_vd d m (T i))) = true
        rw [w, c, Bool.or_true]; rfl
theorem yw_ft {post : Int32 → SY → Prop} {d m na : Nat} {T : Nat → tm_F} {wo : Int32} (h1 : 1 ≤ d) (h3 : d ≤ 3) (hna : na ≤ 6) (AX : yw_AX na T sz ky ay)
    (K : ∀ ps, post (nI (tm_ft d na T wo m).toNat) (nI d, vh, nI na, sz, ky, ay, ps)) : wpY_fits post (nI d, vh, nI na, sz, ky, ay, ps) (nI m) wo :=
  ⟨na + 1, yw_ft_2 h1 h3 hna AX K na 0 ps (by omega) rfl⟩
end
end
section
/-! the reference's public methods that ask about interpretations -/
section
variable {vd vh va : Int32} {sz ky ay ps : Nat → Int32}
theorem yw_mods_4 {post : Int32 → SY → Prop} {d na : Nat} {T : Nat → tm_F} (h1 : 1 ≤ d) (h3 : d ≤ 3) (hna : na ≤ 6) (AX : yw_AX na T sz ky ay)
    (K : ∀ ps, post (nI (tm_ct (tm_ft d na T (-1)) (tm_NN d))) (nI d, vh, nI na, sz, ky, ay, ps)) :
    ∀ (r i : Nat) (ps : Nat → Int32), i + r = tm_NN d → wY_models_4 post (r + 1) (nI (tm_ct (tm_ft d na T (-1)) i)) (nI i) (nI d) vh (nI na) sz ky ay ps := by
  have hN := tm_NN_b h3
  intro r
  induction r with
  | zero =>
    intro i ps h
    have e : i = tm_NN d := by omega
    subst e
    rw [wY_models_4]
    refine yw_int h1 h3 ?_
    exact br_t (nI_le (Nat.le_refl _) hN) (K ps)
  | succ r ih =>
    intro i ps h
    rw [wY_models_4]
    refine yw_int h1 h3 ?_
    refine br_f (nI_ge (by omega) hN) (yw_ft h1 h3 hna AX (fun ps' => ?_))
    have t := ih (i + 1) ps' (by omega)
    have es : tm_ct (tm_ft d na T (-1)) (i + 1) = tm_ct (tm_ft d na T (-1)) i + (tm_ft d na T (-1) i).toNat := rfl
    rw [es] at t
    revert t
    cases tm_ft d na T (-1) i
    · intro t
      exact br_t rfl (nm_r (nI_1 i) t)
    · intro t
      exact br_f (by decide) (nm_r (nI_1 _) (nm_r (nI_1 i) t))
theorem yw_models {post : Int32 → SY → Prop} {d na : Nat} {T : Nat → tm_F} (h1 : 1 ≤ d) (h3 : d ≤ 3) (hna : na ≤ 6) (AX : yw_AX na T sz ky ay)
    (K : ∀ ps, post (nI (tm_ct (tm_ft d na T (-1)) (tm_NN d))) (nI d, vh, nI na, sz, ky, ay, ps)) : wpY_models post (nI d, vh, nI na, sz, ky, ay, ps) :=
  ⟨_, yw_mods_4 h1 h3 hna AX K (tm_NN d) 0 ps (by omega)⟩
theorem yw_nx_2 {post : Int32 → SY → Prop} {d na : Nat} {T : Nat → tm_F} {x : Int32} (h1 : 1 ≤ d) (h3 : d ≤ 3) (hna : na ≤ 6) (AX : yw_AX na T sz ky ay) :
    ∀ (r i : Nat) (ps : Nat → Int32), i + r = tm_NN d → (∀ ps, post (tm_nx (fun m => decide (x < nI m) && tm_ft d na T (-1) m) r i) (nI d, vh, nI na, sz, ky, ay, ps)) → wY_next_2 post x (r + 1) (nI i) (nI d) vh (nI na) sz ky ay ps := by
  have hN := tm_NN_b h3
  intro r
  induction r with
  | zero =>
    intro i ps h K
    have e : i = tm_NN d := by omega
    subst e
    rw [wY_next_2]
    refine yw_int h1 h3 ?_
    exact br_t (nI_le (Nat.le_refl _) hN) (K ps)
  | succ r ih =>
    intro i ps h K
    have es : tm_nx (fun m => decide (x < nI m) && tm_ft d na T (-1) m) (r + 1) i = if (decide (x < nI i) && tm_ft d na T (-1) i) then nI i else tm_nx (fun m => decide (x < nI m) && tm_ft d na T (-1) m) r (i + 1) := rfl
    rw [es] at K
    rw [wY_next_2]
    refine yw_int h1 h3 ?_
    refine br_f (nI_ge (by omega) hN) (br_c (fun c => nm_r (nI_1 i) (ih (i + 1) ps (by omega) ?_)) (fun c => yw_ft h1 h3 hna AX (fun ps' => ?_)))
    · rw [decide_eq_false (Int32.not_lt.mpr c)] at K
      exact K
    · rw [decide_eq_true (Int32.not_le.mp c), Bool.true_and] at K
      revert K
      cases tm_ft d na T (-1) i
      · intro K
        exact br_t rfl (nm_r (nI_1 i) (ih (i + 1) ps' (by omega) K))
      · intro K
        exact br_f (by decide) (K ps')
theorem yw_next {post : Int32 → SY → Prop} {d na : Nat} {T : Nat → tm_F} {x : Int32} (h1 : 1 ≤ d) (h3 : d ≤ 3) (hna : na ≤ 6) (AX : yw_AX na T sz ky ay)
    (K : ∀ ps, post (tm_nx (fun m => decide (x < nI m) && tm_ft d na T (-1) m) (tm_NN d) 0) (nI d, vh, nI na, sz, ky, ay, ps)) : wpY_next post (nI d, vh, nI na, sz, ky, ay, ps) x :=
  ⟨_, yw_nx_2 h1 h3 hna AX (tm_NN d) 0 ps (by omega) K⟩
theorem yw_isModel_y {post : Int32 → SY → Prop} {d na m : Nat} {T : Nat → tm_F} (h1 : 1 ≤ d) (h3 : d ≤ 3) (hna : na ≤ 6) (hm : m < tm_NN d) (AX : yw_AX na T sz ky ay)
    (K : ∀ ps, post (nI (tm_ft d na T (-1) m).toNat) (nI d, vh, nI na, sz, ky, ay, ps)) : wpY_isModel post (nI d, vh, nI na, sz, ky, ay, ps) (nI m) := by
  unfold wpY_isModel
  dsimp only
  refine yw_num_y h1 h3 hm (br_f (by decide) (yw_ft h1 h3 hna AX (fun ps' => ?_)))
  have k := K ps'
  revert k
  cases tm_ft d na T (-1) m
  · intro k; exact br_t rfl k
  · intro k; exact br_f (by decide) k
theorem yw_isModel_n {post : Int32 → SY → Prop} {d : Nat} {x : Int32} (h1 : 1 ≤ d) (h3 : d ≤ 3) (hm : x < 0 ∨ nI (tm_NN d) ≤ x) (K : post (-1) (nI d, vh, va, sz, ky, ay, ps)) : wpY_isModel post (nI d, vh, va, sz, ky, ay, ps) x := by
  unfold wpY_isModel
  dsimp only
  exact yw_num_n h1 h3 hm (br_t rfl K)
/-! forced -/
theorem yw_fo_68 {post : Int32 → SY → Prop} {J : Int32 → Int32 → Int32 → Int32 → Int32 → Int32 → (Nat → Int32) → (Nat → Int32) → (Nat → Int32) → (Nat → Int32) → Prop} {dg i : Nat} {z0 : Int32} {c : Bool} (hdg : dg < 32)
    (K : J z0 (nI (c || i.testBit dg).toNat) (nI (i + 1)) vd vh va sz ky ay ps) : wY_forced_68 post J (nI dg) (nI c.toNat) (nI i) z0 vd vh va sz ky ay ps := by
  unfold wY_forced_68
  rw [nb_m i hdg]
  cases c
  · rw [Bool.false_or] at K
    revert K
    cases i.testBit dg
    · intro K
      exact br_t rfl (br_f (by decide) (nm_r (nI_1 i) K))
    · intro K
      exact br_t rfl (br_t rfl (nm_r (nI_1 i) K))
  · exact br_f (by decide) (nm_r (nI_1 i) K)
theorem yw_fo_31 {post : Int32 → SY → Prop} {d na dg : Nat} {T : Nat → tm_F} (h1 : 1 ≤ d) (h3 : d ≤ 3) (hna : na ≤ 6) (hdg : dg < 32) (AX : yw_AX na T sz ky ay)
    (K : ∀ ps, post (tm_fc (tm_an (fun m => tm_ft d na T (-1) m && m.testBit dg) (tm_NN d)) (tm_an (fun m => tm_ft d na T (-1) m && !m.testBit dg) (tm_NN d))) (nI d, vh, nI na, sz, ky, ay, ps)) :
    ∀ (r i : Nat) (ps : Nat → Int32), i + r = tm_NN d → wY_forced_31 post (nI dg) (r + 1) (nI (tm_an (fun m => tm_ft d na T (-1) m && !m.testBit dg) i).toNat) (nI (tm_an (fun m => tm_ft d na T (-1) m && m.testBit dg) i).toNat) (nI i) (nI d) vh (nI na) sz ky ay ps := by
  have hN := tm_NN_b h3
  intro r
  induction r with
  | zero =>
    intro i ps h
    have e : i = tm_NN d := by omega
    rw [e, wY_forced_31]
    refine yw_int h1 h3 ?_
    refine br_t (nI_le (Nat.le_refl _) hN) ?_
    have k := K ps
    unfold tm_fc at k
    revert k
    generalize tm_an (fun m => tm_ft d na T (-1) m && m.testBit dg) (tm_NN d) = y
    generalize tm_an (fun m => tm_ft d na T (-1) m && !m.testBit dg) (tm_NN d) = n
    intro k
    unfold wY_forced_107
    cases n
    · refine br_t rfl (br_t rfl ?_)
      cases y
      · exact br_t rfl k
      · exact br_f (by decide) k
    · cases y
      · exact br_f (by decide) (br_t rfl (br_f (by decide) k))
      · exact br_f (by decide) (br_f (by decide) k)
  | succ r ih =>
    intro i ps h
    rw [wY_forced_31]
    refine yw_int h1 h3 ?_
    refine br_f (nI_ge (by omega) hN) (yw_ft h1 h3 hna AX (fun ps' => ?_))
    have t := ih (i + 1) ps' (by omega)
    have e1 : tm_an (fun m => tm_ft d na T (-1) m && m.testBit dg) (i + 1) = (tm_an (fun m => tm_ft d na T (-1) m && m.testBit dg) i || (tm_ft d na T (-1) i && i.testBit dg)) := rfl
    have e2 : tm_an (fun m => tm_ft d na T (-1) m && !m.testBit dg) (i + 1) = (tm_an (fun m => tm_ft d na T (-1) m && !m.testBit dg) i || (tm_ft d na T (-1) i && !i.testBit dg)) := rfl
    rw [e1, e2] at t
    revert t
    generalize tm_an (fun m => tm_ft d na T (-1) m && m.testBit dg) i = y
    generalize tm_an (fun m => tm_ft d na T (-1) m && !m.testBit dg) i = n
    dsimp only
    cases tm_ft d na T (-1) i
    · intro t
      rw [Bool.false_and, Bool.false_and, Bool.or_false, Bool.or_false] at t
      exact br_t rfl (nm_r (nI_1 i) t)
    · intro t
      rw [Bool.true_and, Bool.true_and] at t
      refine br_f (by decide) ?_
      rw [nb_m i hdg]
      unfold wY_forced_63
      cases n
      · refine br_t rfl (br_c (fun c => ?_) (fun c => ?_))
        · have cb := nb_o0.mp c
          refine yw_fo_68 hdg ?_
          rw [cb] at t ⊢
          exact t
        · have cb : i.testBit dg = true := ts_nf (fun q => c (nb_o0.mpr q))
          refine yw_fo_68 hdg ?_
          rw [cb] at t ⊢
          exact t
      · exact br_f (by decide) (yw_fo_68 hdg t)
theorem yw_forced_y {post : Int32 → SY → Prop} {d na dg : Nat} {T : Nat → tm_F} (h1 : 1 ≤ d) (h3 : d ≤ 3) (hna : na ≤ 6) (hdg : dg < d + d * d) (AX : yw_AX na T sz ky ay)
    (K : ∀ ps, post (tm_fc (tm_an (fun m => tm_ft d na T (-1) m && m.testBit dg) (tm_NN d)) (tm_an (fun m => tm_ft d na T (-1) m && !m.testBit dg) (tm_NN d))) (nI d, vh, nI na, sz, ky, ay, ps)) : wpY_forced post (nI d, vh, nI na, sz, ky, ay, ps) (nI dg) := by
  have h12 : d + d * d ≤ 12 := by
    refine tm_d3 (P := fun d => d + d * d ≤ 12) h1 h3 ?_ ?_ ?_ <;> decide
  unfold wpY_forced
  dsimp only
  rw [xw_dd]
  exact br_f (nI_pos (by omega)) (br_t (nI_lt hdg (by omega)) ⟨_, yw_fo_31 h1 h3 hna (by omega) AX K (tm_NN d) 0 ps (by omega)⟩)
theorem yw_forced_n {post : Int32 → SY → Prop} {d : Nat} {x : Int32} (h : x < 0 ∨ nI (d + d * d) ≤ x) (K : post (-1) (nI d, vh, va, sz, ky, ay, ps)) : wpY_forced post (nI d, vh, va, sz, ky, ay, ps) x := by
  unfold wpY_forced
  dsimp only
  rw [xw_dd]
  exact br_c (fun _ => K) (fun z => br_f (Int32.not_lt.mpr (h.resolve_left z)) K)
/-! holds, lists -/
theorem yw_holds_y {post : Int32 → SY → Prop} {d h m l : Nat} {f : tm_F} (h1 : 1 ≤ d) (h3 : d ≤ 3) (g1 : 1 ≤ h) (g6 : h ≤ 6) (wf : tm_wf f) (sl : yw_SL sz ky ay (h - 1) f) (hm : m < tm_NN d) (hl : l < 27)
    (K1 : tm_isl d l = true → ∀ ps, post (nI (tm_sv d m f f.1 0 l).toNat) (nI d, nI h, va, sz, ky, ay, ps)) (K0 : tm_isl d l = false → post (-1) (nI d, nI h, va, sz, ky, ay, ps)) : wpY_holds post (nI d, nI h, va, sz, ky, ay, ps) (nI m) (nI l) := by
  unfold wpY_holds
  dsimp only
  rw [xi_e1 g1]
  refine br_f (nI_ne0 (by omega) (by omega)) (yw_num_y h1 h3 hm (br_f (by decide) (yw_isl h3 hl (fun z => br_f (by decide) (yw_lo h1 h3 (by omega) wf sl (fun x ps hx => ?_))) (fun z => br_t rfl (K0 z)))))
  dsimp only
  rw [nb_x x (show l < 32 by omega), hx l (by omega), z, Bool.true_and]
  exact K1 z ps
theorem yw_holds_n {post : Int32 → SY → Prop} {d h : Nat} {x y : Int32} (h1 : 1 ≤ d) (h3 : d ≤ 3) (g6 : h ≤ 6) (hn : h = 0 ∨ (x < 0 ∨ nI (tm_NN d) ≤ x) ∨ (y < 0 ∨ nI 27 ≤ y))
    (K : post (-1) (nI d, nI h, va, sz, ky, ay, ps)) : wpY_holds post (nI d, nI h, va, sz, ky, ay, ps) x y := by
  unfold wpY_holds
  dsimp only
  refine br_c (fun _ => K) (fun hh => ?_)
  rcases hn with hn | hn | hn
  · subst hn; exact absurd rfl hh
  · exact yw_num_n h1 h3 hn (br_t rfl K)
  · rcases pk_ix x (tm_NN_b h3) with z | z | ⟨m, hm, rfl⟩
    · exact yw_num_n h1 h3 (Or.inl z) (br_t rfl K)
    · exact yw_num_n h1 h3 (Or.inr z) (br_t rfl K)
    · exact yw_num_y h1 h3 hm (br_f (by decide) (yw_isl_n hn (br_t rfl K)))
theorem yw_ls_34 {post : Int32 → SY → Prop} {x : Int32} (K : post (nI (tm_ct (bt x) 27)) (vd, vh, va, sz, ky, ay, ps)) :
    ∀ r i : Nat, i + r = 27 → wY_lists_34 post x vd vh va sz ky ay ps (r + 1) (nI (tm_ct (bt x) i)) (nI i) := by
  intro r
  induction r with
  | zero =>
    intro i h
    have e : i = 27 := by omega
    subst e
    exact br_t (nI_le (a := 27) (b := 27) (Nat.le_refl _) (by decide)) K
  | succ r ih =>
    intro i h
    refine br_f (nI_ge (b := 27) (by omega) (by decide)) ?_
    rw [nb_x x (show i < 32 by omega)]
    exact nm_r (nI_add _ _) (nm_r (nI_1 i) (ih (i + 1) (by omega)))
theorem yw_lists_y {post : Int32 → SY → Prop} {d h m : Nat} {f : tm_F} (h1 : 1 ≤ d) (h3 : d ≤ 3) (g1 : 1 ≤ h) (g6 : h ≤ 6) (wf : tm_wf f) (sl : yw_SL sz ky ay (h - 1) f) (hm : m < tm_NN d)
    (K : ∀ ps, post (nI (tm_ct (fun l => tm_isl d l && tm_sv d m f f.1 0 l) 27)) (nI d, nI h, va, sz, ky, ay, ps)) : wpY_lists post (nI d, nI h, va, sz, ky, ay, ps) (nI m) := by
  unfold wpY_lists
  dsimp only
  rw [xi_e1 g1]
  refine br_f (nI_ne0 (by omega) (by omega)) (yw_num_y h1 h3 hm (br_f (by decide) (yw_lo h1 h3 (by omega) wf sl (fun x ps hx => ⟨28, yw_ls_34 ?_ 27 0 rfl⟩))))
  rw [tm_ct_congr (fun l hl => hx l (by omega))]
  exact K ps
theorem yw_lists_n {post : Int32 → SY → Prop} {d h : Nat} {x : Int32} (h1 : 1 ≤ d) (h3 : d ≤ 3) (g6 : h ≤ 6) (hn : h = 0 ∨ (x < 0 ∨ nI (tm_NN d) ≤ x)) (K : post (-1) (nI d, nI h, va, sz, ky, ay, ps)) : wpY_lists post (nI d, nI h, va, sz, ky, ay, ps) x := by
  unfold wpY_lists
  dsimp only
  refine br_c (fun _ => K) (fun hh => ?_)
  rcases hn with hn | hn
  · subst hn; exact absurd rfl hh
  · exact yw_num_n h1 h3 hn (br_t rfl K)
/-! follows, agreeing -/
theorem yw_fw_11 {post : Int32 → SY → Prop} {d na h : Nat} {T : Nat → tm_F} {f : tm_F} (h1 : 1 ≤ d) (h3 : d ≤ 3) (hna : na ≤ 6) (g1 : 1 ≤ h) (g6 : h ≤ 6) (wf : tm_wf f) (sl : yw_SL sz ky ay (h - 1) f) (AX : yw_AX na T sz ky ay)
    (K : ∀ ps, post (nI (tm_al (fun m => !tm_ft d na T (-1) m || tm_vd d m f) (tm_NN d)).toNat) (nI d, nI h, nI na, sz, ky, ay, ps)) :
    ∀ (r i : Nat) (ps : Nat → Int32), i + r = tm_NN d → tm_al (fun m => !tm_ft d na T (-1) m || tm_vd d m f) i = true → wY_follows_11 post (r + 1) (nI i) (nI d) (nI h) (nI na) sz ky ay ps := by
  have hN := tm_NN_b h3
  intro r
  induction r with
  | zero =>
    intro i ps h w
    have e : i = tm_NN d := by omega
    rw [e] at w
    rw [e, wY_follows_11]
    refine yw_int h1 h3 ?_
    have k := K ps
    rw [w] at k
    exact br_t (nI_le (Nat.le_refl _) hN) k
  | succ r ih =>
    intro i ps h w
    have es : tm_al (fun m => !tm_ft d na T (-1) m || tm_vd d m f) (i + 1) = (tm_al (fun m => !tm_ft d na T (-1) m || tm_vd d m f) i && (!tm_ft d na T (-1) i || tm_vd d i f)) := rfl
    rw [wY_follows_11]
    refine yw_int h1 h3 ?_
    refine br_f (nI_ge (by omega) hN) (yw_ft h1 h3 hna AX (fun ps' => ?_))
    dsimp only
    cases c : tm_ft d na T (-1) i
    · exact br_t rfl (nm_r (nI_1 i) (ih (i + 1) ps' (by omega) (by rw [es, w, c]; rfl)))
    · rw [xi_e1 g1]
      refine br_f (by decide) (yw_iv h1 h3 (by omega) wf sl (fun ps' => ?_))
      cases c2 : tm_vd d i f
      · have e : tm_al (fun m => !tm_ft d na T (-1) m || tm_vd d m f) (tm_NN d) = false := tm_al_mono (show i + 1 ≤ tm_NN d by omega) (by rw [es, c, c2, w]; rfl)
        have k := K ps'
        rw [e] at k
        exact br_t rfl k
      · exact br_f (by decide) (nm_r (nI_1 i) (ih (i + 1) ps' (by omega) (by rw [es, w, c2, Bool.or_true]; rfl)))
theorem yw_follows {post : Int32 → SY → Prop} {d na h : Nat} {T : Nat → tm_F} {f : tm_F} (h1 : 1 ≤ d) (h3 : d ≤ 3) (hna : na ≤ 6) (g1 : 1 ≤ h) (g6 : h ≤ 6) (wf : tm_wf f) (sl : yw_SL sz ky ay (h - 1) f) (AX : yw_AX na T sz ky ay)
    (K : ∀ ps, post (nI (tm_al (fun m => !tm_ft d na T (-1) m || tm_vd d m f) (tm_NN d)).toNat) (nI d, nI h, nI na, sz, ky, ay, ps)) : wpY_follows post (nI d, nI h, nI na, sz, ky, ay, ps) :=
  br_f (nI_ne0 (by omega) (by omega)) ⟨_, yw_fw_11 h1 h3 hna g1 g6 wf sl AX K (tm_NN d) 0 ps (by omega) rfl⟩
theorem yw_ag_13 {post : Int32 → SY → Prop} {d na h : Nat} {T : Nat → tm_F} {f : tm_F} (h1 : 1 ≤ d) (h3 : d ≤ 3) (hna : na ≤ 6) (g1 : 1 ≤ h) (g6 : h ≤ 6) (wf : tm_wf f) (sl : yw_SL sz ky ay (h - 1) f) (AX : yw_AX na T sz ky ay)
    (K : ∀ ps, post (nI (tm_ct (fun m => tm_ft d na T (-1) m && tm_vd d m f) (tm_NN d))) (nI d, nI h, nI na, sz, ky, ay, ps)) :
    ∀ (r i : Nat) (ps : Nat → Int32), i + r = tm_NN d → wY_agreeing_13 post (r + 1) (nI (tm_ct (fun m => tm_ft d na T (-1) m && tm_vd d m f) i)) (nI i) (nI d) (nI h) (nI na) sz ky ay ps := by
  have hN := tm_NN_b h3
  intro r
  induction r with
  | zero =>
    intro i ps h
    have e : i = tm_NN d := by omega
    rw [e, wY_agreeing_13]
    refine yw_int h1 h3 ?_
    exact br_t (nI_le (Nat.le_refl _) hN) (K ps)
  | succ r ih =>
    intro i ps h
    have es : tm_ct (fun m => tm_ft d na T (-1) m && tm_vd d m f) (i + 1) = tm_ct (fun m => tm_ft d na T (-1) m && tm_vd d m f) i + (tm_ft d na T (-1) i && tm_vd d i f).toNat := rfl
    rw [wY_agreeing_13]
    refine yw_int h1 h3 ?_
    refine br_f (nI_ge (by omega) hN) (yw_ft h1 h3 hna AX (fun ps' => ?_))
    dsimp only
    cases c : tm_ft d na T (-1) i
    · have t := ih (i + 1) ps' (by omega)
      rw [es, c] at t
      exact br_t rfl (nm_r (nI_1 i) t)
    · rw [xi_e1 g1]
      refine br_f (by decide) (yw_iv h1 h3 (by omega) wf sl (fun ps' => ?_))
      have t := ih (i + 1) ps' (by omega)
      cases c2 : tm_vd d i f
      · rw [es, c, c2] at t
        exact br_t rfl (nm_r (nI_1 i) t)
      · rw [es, c, c2] at t
        exact br_f (by decide) (nm_r (nI_1 _) (nm_r (nI_1 i) t))
theorem yw_agreeing {post : Int32 → SY → Prop} {d na h : Nat} {T : Nat → tm_F} {f : tm_F} (h1 : 1 ≤ d) (h3 : d ≤ 3) (hna : na ≤ 6) (g1 : 1 ≤ h) (g6 : h ≤ 6) (wf : tm_wf f) (sl : yw_SL sz ky ay (h - 1) f) (AX : yw_AX na T sz ky ay)
    (K : ∀ ps, post (nI (tm_ct (fun m => tm_ft d na T (-1) m && tm_vd d m f) (tm_NN d))) (nI d, nI h, nI na, sz, ky, ay, ps)) : wpY_agreeing post (nI d, nI h, nI na, sz, ky, ay, ps) :=
  br_f (nI_ne0 (by omega) (by omega)) ⟨_, yw_ag_13 h1 h3 hna g1 g6 wf sl AX K (tm_NN d) 0 ps (by omega)⟩
/-! alike -/
theorem tm_df_0 {d m : Nat} {f g : tm_F} : tm_df d m g f = false ↔ ∀ l, tm_isl d l = true → tm_sv d m f f.1 0 l = tm_sv d m g g.1 0 l := by
  unfold tm_df
  rw [tm_an_0]
  constructor
  · intro h l hl
    have a := h l (tm_isl_iff.mp hl).1
    rw [hl, Bool.true_and] at a
    revert a
    cases tm_sv d m f f.1 0 l <;> cases tm_sv d m g g.1 0 l <;> decide
  · intro h l _
    cases c : tm_isl d l
    · rfl
    · rw [h l c, Bool.xor_self]; rfl
theorem yw_al_12 {post : Int32 → SY → Prop} {d na h : Nat} {T : Nat → tm_F} {f g : tm_F} (h1 : 1 ≤ d) (h3 : d ≤ 3) (hna : na ≤ 6) (g2 : 2 ≤ h) (g6 : h ≤ 6) (wf : tm_wf f) (wg : tm_wf g) (sl : yw_SL sz ky ay (h - 1) f) (sg : yw_SL sz ky ay (h - 2) g) (AX : yw_AX na T sz ky ay)
    (K : ∀ ps, post (nI (!tm_an (fun m => tm_ft d na T (-1) m && tm_df d m g f) (tm_NN d)).toNat) (nI d, nI h, nI na, sz, ky, ay, ps)) :
    ∀ (r i : Nat) (ps : Nat → Int32), i + r = tm_NN d → (∀ m, m < i → (tm_ft d na T (-1) m && tm_df d m g f) = false) → wY_alike_12 post (r + 1) (nI i) (nI d) (nI h) (nI na) sz ky ay ps := by
  have hN := tm_NN_b h3
  intro r
  induction r with
  | zero =>
    intro i ps h w
    have e : i = tm_NN d := by omega
    rw [e] at w
    rw [e, wY_alike_12]
    refine yw_int h1 h3 ?_
    have k := K ps
    rw [tm_an_0.mpr w] at k
    exact br_t (nI_le (Nat.le_refl _) hN) k
  | succ r ih =>
    intro i ps h w
    have ws : (tm_ft d na T (-1) i && tm_df d i g f) = false → ∀ m, m < i + 1 → (tm_ft d na T (-1) m && tm_df d m g f) = false := by
      intro z m hm
      rcases Nat.lt_or_ge m i with y | y
      · exact w m y
      · have : m = i := by omega
        rw [this]; exact z
    rw [wY_alike_12]
    refine yw_int h1 h3 ?_
    refine br_f (nI_ge (by omega) hN) (yw_ft h1 h3 hna AX (fun ps' => ?_))
    dsimp only
    cases c : tm_ft d na T (-1) i
    · exact br_t rfl (nm_r (nI_1 i) (ih (i + 1) ps' (by omega) (ws (by rw [c]; rfl))))
    · rw [xi_e1 (by omega)]
      refine br_f (by decide) (yw_lo h1 h3 (by omega) wf sl (fun x ps' hx => ?_))
      dsimp only
      rw [xi_e2 g2]
      refine yw_lo h1 h3 (by omega) wg sg (fun y ps' hy => br_c (fun e => nm_r (nI_1 i) (ih (i + 1) ps' (by omega) (ws ?_))) (fun e => ?_))
      · rw [tm_df_0.mpr ((yw_PB_eq hx hy).mp e), Bool.and_false]
      · have k := K ps'
        have cd : tm_df d i g f = true := ts_nf (fun z => e ((yw_PB_eq hx hy).mpr (tm_df_0.mp z)))
        rw [(tm_an_iff _ _).mpr ⟨i, by omega, by rw [c, cd]; rfl⟩] at k
        exact k
theorem yw_alike {post : Int32 → SY → Prop} {d na h : Nat} {T : Nat → tm_F} {f g : tm_F} (h1 : 1 ≤ d) (h3 : d ≤ 3) (hna : na ≤ 6) (g2 : 2 ≤ h) (g6 : h ≤ 6) (wf : tm_wf f) (wg : tm_wf g) (sl : yw_SL sz ky ay (h - 1) f) (sg : yw_SL sz ky ay (h - 2) g) (AX : yw_AX na T sz ky ay)
    (K : ∀ ps, post (nI (!tm_an (fun m => tm_ft d na T (-1) m && tm_df d m g f) (tm_NN d)).toNat) (nI d, nI h, nI na, sz, ky, ay, ps)) : wpY_alike post (nI d, nI h, nI na, sz, ky, ay, ps) :=
  br_t (nI_le (a := 2) g2 (by omega)) ⟨_, yw_al_12 h1 h3 hna g2 g6 wf wg sl sg AX K (tm_NN d) 0 ps (by omega) (fun m hm => absurd hm (Nat.not_lt_zero m))⟩
theorem yw_alike_n {post : Int32 → SY → Prop} {h : Nat} (g : h < 2) (K : post (-1) (vd, nI h, va, sz, ky, ay, ps)) : wpY_alike post (vd, nI h, va, sz, ky, ay, ps) :=
  br_f (nI_ge (b := 2) g (by decide)) K
/-! independent -/
theorem yw_in_16 {post : Int32 → SY → Prop} {d na j : Nat} {T : Nat → tm_F} (h1 : 1 ≤ d) (h3 : d ≤ 3) (hna : na ≤ 6) (hj : j < na) (AX : yw_AX na T sz ky ay)
    (K : ∀ ps, post (nI (tm_an (fun m => tm_ft d na T (nI j) m && !tm_vd d m (T j)) (tm_NN d)).toNat) (nI d, vh, nI na, sz, ky, ay, ps)) :
    ∀ (r i : Nat) (ps : Nat → Int32), i + r = tm_NN d → (∀ m, m < i → (tm_ft d na T (nI j) m && !tm_vd d m (T j)) = false) → wY_independent_16 post (nI j) (r + 1) (nI i) (nI d) vh (nI na) sz ky ay ps := by
  have hN := tm_NN_b h3
  obtain ⟨a1, a2⟩ := AX j hj
  have e6 : (6 : Int32) + nI j = nI (6 + j) := nI_add 6 j
  intro r
  induction r with
  | zero =>
    intro i ps h w
    have e : i = tm_NN d := by omega
    rw [e] at w
    rw [e, wY_independent_16]
    refine yw_int h1 h3 ?_
    have k := K ps
    rw [tm_an_0.mpr w] at k
    exact br_t (nI_le (Nat.le_refl _) hN) k
  | succ r ih =>
    intro i ps h w
    have ws : (tm_ft d na T (nI j) i && !tm_vd d i (T j)) = false → ∀ m, m < i + 1 → (tm_ft d na T (nI j) m && !tm_vd d m (T j)) = false := by
      intro z m hm
      rcases Nat.lt_or_ge m i with y | y
      · exact w m y
      · have : m = i := by omega
        rw [this]; exact z
    rw [wY_independent_16]
    refine yw_int h1 h3 ?_
    refine br_f (nI_ge (by omega) hN) ?_
    rw [e6]
    refine yw_iv h1 h3 (by omega) a2 a1 (fun ps' => ?_)
    dsimp only
    cases c : tm_vd d i (T j)
    · refine br_t rfl (yw_ft h1 h3 hna AX (fun ps' => ?_))
      dsimp only
      cases c2 : tm_ft d na T (nI j) i
      · exact br_t rfl (nm_r (nI_1 i) (ih (i + 1) ps' (by omega) (ws (by rw [c2]; rfl))))
      · have k := K ps'
        rw [(tm_an_iff _ _).mpr ⟨i, by omega, by rw [c, c2]; rfl⟩] at k
        exact br_f (by decide) k
    · exact br_f (by decide) (nm_r (nI_1 i) (ih (i + 1) ps' (by omega) (ws (by rw [c]; exact Bool.and_false _))))
theorem yw_indep_y {post : Int32 → SY → Prop} {d na j : Nat} {T : Nat → tm_F} (h1 : 1 ≤ d) (h3 : d ≤ 3) (hna : na ≤ 6) (hj : j < na) (AX : yw_AX na T sz ky ay)
    (K : ∀ ps, post (nI (tm_an (fun m => tm_ft d na T (nI j) m && !tm_vd d m (T j)) (tm_NN d)).toNat) (nI d, vh, nI na, sz, ky, ay, ps)) : wpY_independent post (nI d, vh, nI na, sz, ky, ay, ps) (nI j) :=
  br_f (nI_pos (by omega)) (br_t (nI_lt hj (by omega)) ⟨_, yw_in_16 h1 h3 hna hj AX K (tm_NN d) 0 ps (by omega) (fun m hm => absurd hm (Nat.not_lt_zero m))⟩)
theorem yw_indep_n {post : Int32 → SY → Prop} {na : Nat} {x : Int32} (h : x < 0 ∨ nI na ≤ x) (K : post (-1) (vd, vh, nI na, sz, ky, ay, ps)) : wpY_independent post (vd, vh, nI na, sz, ky, ay, ps) x :=
  br_c (fun _ => K) (fun z => br_f (Int32.not_lt.mpr (h.resolve_left z)) K)
/-! smallest -/
theorem tm_nx_pos {g : Nat → Bool} {n i : Nat} (hb : i + n < 2 ^ 31) (hs : tm_an (fun j => g (i + j)) n = true) : ¬ tm_nx g n i < 0 := by
  induction n generalizing i with
  | zero => exact nomatch hs
  | succ n ih =>
    show ¬ (if g i then nI i else tm_nx g n (i + 1)) < 0
    cases c : g i
    · refine ih (by omega) ?_
      obtain ⟨j, hj, e⟩ := (tm_an_iff _ _).mp hs
      refine (tm_an_iff _ _).mpr ?_
      have : j ≠ 0 := by
        intro z
        subst z
        rw [Nat.add_zero, c] at e
        exact nomatch e
      exact ⟨j - 1, by omega, by rw [show i + 1 + (j - 1) = i + j by omega]; exact e⟩
    · exact nI_pos (by omega)
theorem yw_sm_n {d na : Nat} {T : Nat → tm_F} (h3 : d ≤ 3) : (tm_nx (fun m => decide ((-1 : Int32) < nI m) && tm_ft d na T (-1) m) (tm_NN d) 0 < 0) ↔ tm_ex na T d = false := by
  have hN := tm_NN_b h3
  have hm : ∀ m, m < tm_NN d → (decide ((-1 : Int32) < nI m) && tm_ft d na T (-1) m) = tm_ft d na T (-1) m := by
    intro m hm
    have a : (-1 : Int32) < nI m := Int32.lt_of_lt_of_le (by decide) (nI_pos' (by omega))
    rw [decide_eq_true a, Bool.true_and]
  constructor
  · intro h
    cases c : tm_ex na T d
    · rfl
    · refine absurd h (tm_nx_pos (by omega) ?_)
      unfold tm_ex at c
      rw [← c]
      exact tm_an_congr (fun i hi => by rw [Nat.zero_add]; exact hm i hi)
  · intro h
    unfold tm_ex at h
    rw [tm_nx_0 (fun j _ hj => by rw [hm j (by omega)]; exact tm_an_0.mp h j (by omega))]
    decide
theorem yw_smallest {post : Int32 → SY → Prop} {na : Nat} {T : Nat → tm_F} (hna : na ≤ 6) (AX : yw_AX na T sz ky ay)
    (K : ∀ ps, post (tm_sl na T) (vd, vh, nI na, sz, ky, ay, ps)) : wpY_smallest post (vd, vh, nI na, sz, ky, ay, ps) := by
  have st : ∀ (e : Nat) (n : Nat) (x x' : Int32) (ps : Nat → Int32) (vd : Int32), 1 ≤ e → e ≤ 3 → x' = (if tm_ex na T e then nI e else x) → (∀ ps, wY_smallest_9 post vd n x' (nI (e - 1)) (nI e) vh (nI na) sz ky ay ps) → ∀ w : Int32, wY_smallest_9 post vd (n + 1) x (nI e) w vh (nI na) sz ky ay ps := by
    intro e n x x' ps vd h1 h3 hx k w
    have e1 : nI e + (-1) = nI (e - 1) := by
      have t := pk_m1 (e - 1)
      rw [show e - 1 + 1 = e by omega] at t
      exact t
    refine br_f (nI_nle (by omega) (by omega)) (yw_next h1 h3 hna AX (fun ps' => br_c (fun c => nm_r e1 ?_) (fun c => nm_r e1 ?_)))
    · rw [(yw_sm_n h3).mp c] at hx
      have t := k ps'
      rw [hx] at t
      exact t
    · rw [ts_nf (fun z => c ((yw_sm_n h3).mpr z))] at hx
      have t := k ps'
      rw [hx] at t
      exact t
  refine ⟨4, st 3 3 0 _ ps vd (by decide) (by decide) rfl (fun ps => st 2 2 _ _ ps vd (by decide) (by decide) rfl (fun ps => st 1 1 _ _ ps vd (by decide) (by decide) rfl (fun ps => br_t (by decide) ?_) _) _) _⟩
  have k := K ps
  have e : (if tm_ex na T 1 = true then nI 1 else if tm_ex na T 2 = true then nI 2 else if tm_ex na T 3 = true then nI 3 else 0) = tm_sl na T := rfl
  rw [e]
  exact k
end
end
section
/-! one-to-one maps of the elements: their action on interpretations, invariance of validity, Burnside's count -/
def tm_sg (p e : Nat) : Nat := ([0, 1, 2, 1, 0, 2, 0, 2, 1, 2, 0, 1, 1, 2, 0, 2, 1, 0] : List Nat).getD (3 * p + e) 0
def tm_iv (p : Nat) : Nat := ([0, 1, 2, 4, 3, 5] : List Nat).getD p 0
def tm_mu (p q : Nat) : Nat := ([0, 1, 2, 3, 4, 5, 1, 0, 4, 5, 2, 3, 2, 3, 0, 1, 5, 4, 3, 2, 5, 4, 0, 1, 4, 5, 1, 0, 3, 2, 5, 4, 3, 2, 1, 0] : List Nat).getD (6 * p + q) 0
def tm_c (d p i : Nat) : Nat := if i < d then tm_sg (tm_iv p) i else d + d * tm_sg (tm_iv p) ((i - d) / d) + tm_sg (tm_iv p) ((i - d) % d)
/-- the number with given bits -/
def tm_nb (g : Nat → Bool) : Nat → Nat
  | 0 => 0
  | n + 1 => 2 ^ n * (g n).toNat + tm_nb g n
theorem tm_nb_lt (g : Nat → Bool) (n : Nat) : tm_nb g n < 2 ^ n := by
  induction n with
  | zero => exact Nat.one_pos
  | succ n ih =>
    have h := tm_toNat_le (g n)
    have h2 : 2 ^ n * (g n).toNat ≤ 2 ^ n * 1 := Nat.mul_le_mul_left _ h
    show 2 ^ n * (g n).toNat + tm_nb g n < 2 ^ (n + 1)
    rw [Nat.pow_succ]
    omega
theorem tm_nb_b (g : Nat → Bool) (n i : Nat) : (tm_nb g n).testBit i = (decide (i < n) && g i) := by
  induction n with
  | zero =>
    show (0 : Nat).testBit i = _
    rw [Nat.zero_testBit, decide_eq_false (Nat.not_lt_zero i), Bool.false_and]
  | succ n ih =>
    show (2 ^ n * (g n).toNat + tm_nb g n).testBit i = _
    rw [Nat.testBit_two_pow_mul_add _ (tm_nb_lt g n)]
    by_cases h : i < n
    · rw [if_pos h, ih, decide_eq_true h, decide_eq_true (by omega)]
    · rw [if_neg h]
      by_cases e : i = n
      · subst e
        rw [Nat.sub_self, decide_eq_true (Nat.lt_succ_self i), Bool.true_and]
        cases g i <;> rfl
      · rw [decide_eq_false (by omega), Bool.false_and]
        have : i - n ≠ 0 := by omega
        cases g n
        · exact Nat.zero_testBit _
        · obtain ⟨k, hk⟩ : ∃ k, i - n = k + 1 := ⟨i - n - 1, by omega⟩
          rw [hk]
          show (1 : Nat).testBit (k + 1) = false
          rw [Nat.testBit_succ]
          exact Nat.zero_testBit _
def tm_ig (d p m : Nat) : Nat := tm_nb (fun i => m.testBit (tm_c d p i)) (d + d * d)
theorem tm_ig_lt (d p m : Nat) : tm_ig d p m < tm_NN d := tm_nb_lt _ _
theorem tm_ig_b (d p m : Nat) {i : Nat} (h : i < d + d * d) : (tm_ig d p m).testBit i = m.testBit (tm_c d p i) := by
  unfold tm_ig
  rw [tm_nb_b, decide_eq_true h, Bool.true_and]
/-- numbers of interpretations are equal if their digits are -/
theorem tm_eq_b {d m n : Nat} (hm : m < tm_NN d) (hn : n < tm_NN d) (h : ∀ i, i < d + d * d → m.testBit i = n.testBit i) : m = n := by
  apply Nat.eq_of_testBit_eq
  intro i
  rcases Nat.lt_or_ge i (d + d * d) with z | z
  · exact h i z
  · have h2 : tm_NN d ≤ 2 ^ i := Nat.pow_le_pow_right (by decide) z
    rw [Nat.testBit_lt_two_pow (by omega), Nat.testBit_lt_two_pow (by omega)]
theorem tm_f1 : ∀ d, d < 4 → ∀ p, p < tm_mp d → tm_iv p < tm_mp d ∧ (∀ e, e < d → tm_sg p e < d ∧ tm_sg (tm_iv p) e < d ∧ tm_sg p (tm_sg (tm_iv p) e) = e ∧ tm_sg (tm_iv p) (tm_sg p e) = e) := by decide +kernel
theorem tm_f2 : ∀ d, d < 4 → 0 < d → ∀ p, p < tm_mp d → ∀ i, i < d + d * d → tm_c d p i < d + d * d := by decide +kernel
theorem tm_f3 : ∀ d, d < 4 → 0 < d → ∀ p, p < tm_mp d → ∀ q, q < tm_mp d → tm_mu p q < tm_mp d ∧ ∀ i, i < d + d * d → tm_c d q (tm_c d p i) = tm_c d (tm_mu p q) i := by decide +kernel
theorem tm_f4 : ∀ p, p < 6 → tm_mu (tm_iv p) p = 0 ∧ tm_mu p (tm_iv p) = 0 ∧ (∀ q, q < 6 → tm_mu (tm_iv p) (tm_mu p q) = q ∧ tm_mu p (tm_mu (tm_iv p) q) = q ∧ tm_mu (tm_mu q (tm_iv p)) p = q) := by decide +kernel
theorem tm_f5 : ∀ d, d < 4 → 0 < d → ∀ i, i < d + d * d → tm_c d 0 i = i := by decide +kernel
theorem tm_f6a : ∀ d, d < 4 → 0 < d → ∀ p, p < tm_mp d → ∀ e, e < d → tm_c d p (tm_sg p e) = e := by decide +kernel
theorem tm_f6b1 : ∀ p, p < tm_mp 1 → ∀ e, e < 1 → ∀ f, f < 1 → 1 + 1 * tm_sg p e + tm_sg p f < 1 + 1 * 1 ∧ tm_c 1 p (1 + 1 * tm_sg p e + tm_sg p f) = 1 + 1 * e + f := by decide +kernel
theorem tm_f6b2 : ∀ p, p < tm_mp 2 → ∀ e, e < 2 → ∀ f, f < 2 → 2 + 2 * tm_sg p e + tm_sg p f < 2 + 2 * 2 ∧ tm_c 2 p (2 + 2 * tm_sg p e + tm_sg p f) = 2 + 2 * e + f := by decide +kernel
theorem tm_f6b3 : ∀ p, p < tm_mp 3 → ∀ e, e < 3 → ∀ f, f < 3 → 3 + 3 * tm_sg p e + tm_sg p f < 3 + 3 * 3 ∧ tm_c 3 p (3 + 3 * tm_sg p e + tm_sg p f) = 3 + 3 * e + f := by decide +kernel
theorem tm_f6b (d : Nat) (h4 : d < 4) (h0 : 0 < d) : ∀ p, p < tm_mp d → ∀ e, e < d → ∀ f, f < d → d + d * tm_sg p e + tm_sg p f < d + d * d ∧ tm_c d p (d + d * tm_sg p e + tm_sg p f) = d + d * e + f :=
  tm_d3 (P := fun d => ∀ p, p < tm_mp d → ∀ e, e < d → ∀ f, f < d → d + d * tm_sg p e + tm_sg p f < d + d * d ∧ tm_c d p (d + d * tm_sg p e + tm_sg p f) = d + d * e + f) h0 (by omega) tm_f6b1 tm_f6b2 tm_f6b3
theorem tm_f6 (d : Nat) (h4 : d < 4) (h0 : 0 < d) (p : Nat) (hp : p < tm_mp d) (e : Nat) (he : e < d) : tm_c d p (tm_sg p e) = e ∧ ∀ f, f < d → d + d * tm_sg p e + tm_sg p f < d + d * d ∧ tm_c d p (d + d * tm_sg p e + tm_sg p f) = d + d * e + f :=
  ⟨tm_f6a d h4 h0 p hp e he, fun f hf => tm_f6b d h4 h0 p hp e he f hf⟩
theorem tm_mp6 (d : Nat) : tm_mp d ≤ 6 := by unfold tm_mp; (repeat' split) <;> omega
theorem tm_mp1 (d : Nat) : 1 ≤ tm_mp d := by unfold tm_mp; (repeat' split) <;> omega
theorem tm_ig_mu {d p q m : Nat} (h1 : 1 ≤ d) (h3 : d ≤ 3) (hp : p < tm_mp d) (hq : q < tm_mp d) : tm_ig d p (tm_ig d q m) = tm_ig d (tm_mu p q) m := by
  refine tm_eq_b (tm_ig_lt _ _ _) (tm_ig_lt _ _ _) (fun i hi => ?_)
  rw [tm_ig_b _ _ _ hi, tm_ig_b _ _ _ hi, tm_ig_b _ _ _ (tm_f2 d (by omega) h1 p hp i hi), (tm_f3 d (by omega) h1 p hp q hq).2 i hi]
theorem tm_ig_0 {d m : Nat} (h1 : 1 ≤ d) (h3 : d ≤ 3) (hm : m < tm_NN d) : tm_ig d 0 m = m := by
  refine tm_eq_b (tm_ig_lt _ _ _) hm (fun i hi => ?_)
  rw [tm_ig_b _ _ _ hi, tm_f5 d (by omega) h1 i hi]
theorem tm_ig_l {d p m : Nat} (h1 : 1 ≤ d) (h3 : d ≤ 3) (hp : p < tm_mp d) (hm : m < tm_NN d) : tm_ig d (tm_iv p) (tm_ig d p m) = m := by
  have h6 := tm_mp6 d
  rw [tm_ig_mu h1 h3 (tm_f1 d (by omega) p hp).1 hp, (tm_f4 p (by omega)).1, tm_ig_0 h1 h3 hm]
theorem tm_ig_r {d p m : Nat} (h1 : 1 ≤ d) (h3 : d ≤ 3) (hp : p < tm_mp d) (hm : m < tm_NN d) : tm_ig d p (tm_ig d (tm_iv p) m) = m := by
  have h6 := tm_mp6 d
  rw [tm_ig_mu h1 h3 hp (tm_f1 d (by omega) p hp).1, (tm_f4 p (by omega)).2.1, tm_ig_0 h1 h3 hm]
/-! sums -/
theorem tm_sm_add (f g : Nat → Nat) (n : Nat) : tm_sm (fun i => f i + g i) n = tm_sm f n + tm_sm g n := by
  induction n with
  | zero => rfl
  | succ n ih =>
    show tm_sm (fun i => f i + g i) n + (f n + g n) = tm_sm f n + f n + (tm_sm g n + g n)
    rw [ih]; omega
theorem tm_sm_0 (n : Nat) : tm_sm (fun _ => 0) n = 0 := by
  induction n with
  | zero => rfl
  | succ n ih => show tm_sm _ n + 0 = 0; rw [ih]
theorem tm_sm_k (k n : Nat) : tm_sm (fun _ => k) n = n * k := by
  induction n with
  | zero => exact (Nat.zero_mul k).symm
  | succ n ih => show tm_sm _ n + k = _; rw [ih, Nat.succ_mul]
theorem tm_sm_sw (a : Nat → Nat → Nat) (k n : Nat) : tm_sm (fun i => tm_sm (fun j => a i j) n) k = tm_sm (fun j => tm_sm (fun i => a i j) k) n := by
  induction k with
  | zero => exact (tm_sm_0 n).symm
  | succ k ih =>
    show tm_sm (fun i => tm_sm (fun j => a i j) n) k + tm_sm (fun j => a k j) n = tm_sm (fun j => tm_sm (fun i => a i j) k + a k j) n
    rw [ih, tm_sm_add]
theorem tm_sm_one (g : Nat → Nat) {k n : Nat} (h : k < n) : tm_sm (fun j => if k = j then g j else 0) n = g k := by
  induction n with
  | zero => omega
  | succ n ih =>
    show tm_sm _ n + (if k = n then g n else 0) = _
    by_cases z : k = n
    · subst z
      rw [if_pos rfl, tm_sm_congr (g := fun _ => 0) (fun i hi => if_neg (by omega)), tm_sm_0, Nat.zero_add]
    · rw [if_neg z, ih (by omega), Nat.add_zero]
theorem tm_sm_pm (g f fi : Nat → Nat) {n : Nat} (h : ∀ i, i < n → f i < n ∧ fi (f i) = i) (h2 : ∀ i, i < n → fi i < n ∧ f (fi i) = i) : tm_sm (fun i => g (f i)) n = tm_sm g n := by
  have e1 : tm_sm (fun i => g (f i)) n = tm_sm (fun i => tm_sm (fun j => if f i = j then g j else 0) n) n := tm_sm_congr (fun i hi => (tm_sm_one g (h i hi).1).symm)
  rw [e1, tm_sm_sw]
  refine tm_sm_congr (fun j hj => ?_)
  have e2 : tm_sm (fun i => if f i = j then g j else 0) n = tm_sm (fun i => if fi j = i then g j else 0) n := by
    refine tm_sm_congr (fun i hi => ?_)
    by_cases z : f i = j
    · rw [if_pos z, if_pos (by rw [← z]; exact (h i hi).2)]
    · rw [if_neg z, if_neg (fun y => z (by rw [← y]; exact (h2 j hj).2))]
  rw [e2]
  exact tm_sm_one (fun _ => g j) (h2 j hj).1
theorem tm_ct_pm (g : Nat → Bool) (f fi : Nat → Nat) {n : Nat} (h : ∀ i, i < n → f i < n ∧ fi (f i) = i) (h2 : ∀ i, i < n → fi i < n ∧ f (fi i) = i) : tm_ct (fun i => g (f i)) n = tm_ct g n := by
  rw [tm_ct_sm, tm_ct_sm]
  exact tm_sm_pm (fun i => (g i).toNat) f fi h h2
/-! the least of its shape -/
def tm_lt (d m : Nat) : Bool := tm_al (fun p => decide (m ≤ tm_ig d p m)) (tm_mp d)
theorem tm_min (v : Nat → Nat) (n : Nat) : ∃ p, p < n + 1 ∧ ∀ q, q < n + 1 → v p ≤ v q := by
  induction n with
  | zero =>
    refine ⟨0, by omega, fun q hq => ?_⟩
    have : q = 0 := by omega
    rw [this]; exact Nat.le_refl _
  | succ n ih =>
    obtain ⟨p, hp, h⟩ := ih
    by_cases z : v p ≤ v (n + 1)
    · refine ⟨p, by omega, fun q hq => ?_⟩
      rcases Nat.lt_or_ge q (n + 1) with y | y
      · exact h q y
      · have : q = n + 1 := by omega
        rw [this]; exact z
    · refine ⟨n + 1, by omega, fun q hq => ?_⟩
      rcases Nat.lt_or_ge q (n + 1) with y | y
      · have := h q y
        omega
      · have : q = n + 1 := by omega
        rw [this]; exact Nat.le_refl _
/-- as many maps leave m as it is as take it to the least of its shape -/
theorem tm_stab {d m : Nat} (h1 : 1 ≤ d) (h3 : d ≤ 3) (hm : m < tm_NN d) : tm_ct (fun p => decide (tm_ig d p m = m)) (tm_mp d) = tm_ct (fun p => tm_lt d (tm_ig d p m)) (tm_mp d) := by
  have h6 := tm_mp6 d
  have hg1 := tm_mp1 d
  obtain ⟨p0, hp0, hmin⟩ := tm_min (fun p => tm_ig d p m) (tm_mp d - 1)
  rw [show tm_mp d - 1 + 1 = tm_mp d by omega] at hp0 hmin
  have hle : ∀ p, p < tm_mp d → tm_lt d (tm_ig d p m) = decide (tm_ig d p m = tm_ig d p0 m) := by
    intro p hp
    have hiv := (tm_f1 d (by omega) p hp).1
    by_cases z : tm_ig d p m = tm_ig d p0 m
    · rw [decide_eq_true z]
      unfold tm_lt
      rw [tm_al_iff]
      intro q hq
      rw [tm_ig_mu h1 h3 hq hp, z]
      exact decide_eq_true (hmin _ (tm_f3 d (by omega) h1 q hq p hp).1)
    · rw [decide_eq_false z]
      cases c : tm_lt d (tm_ig d p m)
      · rfl
      · unfold tm_lt at c
        rw [tm_al_iff] at c
        have hq := (tm_f3 d (by omega) h1 p0 hp0 (tm_iv p) hiv).1
        have a := of_decide_eq_true (c _ hq)
        rw [tm_ig_mu h1 h3 hq hp, ((tm_f4 p (by omega)).2.2 p0 (by omega)).2.2] at a
        have b := hmin p hp
        exact absurd (Nat.le_antisymm a b) z
  rw [tm_ct_congr hle, ← tm_ct_pm (fun p => decide (tm_ig d p m = tm_ig d p0 m)) (tm_mu p0) (tm_mu (tm_iv p0))
    (fun q hq => ⟨(tm_f3 d (by omega) h1 p0 hp0 q hq).1, ((tm_f4 p0 (by omega)).2.2 q (by omega)).1⟩)
    (fun q hq => ⟨(tm_f3 d (by omega) h1 (tm_iv p0) (tm_f1 d (by omega) p0 hp0).1 q hq).1, ((tm_f4 p0 (by omega)).2.2 q (by omega)).2.1⟩)]
  refine tm_ct_congr (fun q hq => ?_)
  show decide (tm_ig d q m = m) = decide (tm_ig d (tm_mu p0 q) m = tm_ig d p0 m)
  rw [← tm_ig_mu h1 h3 hp0 hq]
  by_cases z : tm_ig d q m = m
  · rw [z, decide_eq_true rfl, decide_eq_true rfl]
  · rw [decide_eq_false z, decide_eq_false (fun y => z ?_)]
    have a := congrArg (tm_ig d (tm_iv p0)) y
    rw [tm_ig_l h1 h3 hp0 (tm_ig_lt _ _ _), tm_ig_l h1 h3 hp0 hm] at a
    exact a
/-- Burnside: of a closed set -/
theorem tm_burn {d : Nat} {F : Nat → Bool} (h1 : 1 ≤ d) (h3 : d ≤ 3) (hF : ∀ p, p < tm_mp d → ∀ m, m < tm_NN d → F (tm_ig d p m) = F m) :
    tm_sm (fun p => tm_ct (fun m => F m && decide (tm_ig d p m = m)) (tm_NN d)) (tm_mp d) = tm_mp d * tm_ct (fun m => tm_lt d m && F m) (tm_NN d) := by
  have e1 : tm_sm (fun p => tm_ct (fun m => F m && decide (tm_ig d p m = m)) (tm_NN d)) (tm_mp d) = tm_sm (fun p => tm_ct (fun m => F m && tm_lt d (tm_ig d p m)) (tm_NN d)) (tm_mp d) := by
    rw [tm_sm_congr (fun p _ => tm_ct_sm (fun m => F m && decide (tm_ig d p m = m)) (tm_NN d)), tm_sm_congr (fun p _ => tm_ct_sm (fun m => F m && tm_lt d (tm_ig d p m)) (tm_NN d)), tm_sm_sw (fun p m => (F m && decide (tm_ig d p m = m)).toNat), tm_sm_sw (fun p m => (F m && tm_lt d (tm_ig d p m)).toNat)]
    refine tm_sm_congr (fun m hm => ?_)
    cases c : F m
    · rfl
    · have a := tm_stab h1 h3 hm
      rw [tm_ct_sm, tm_ct_sm] at a
      exact a
  rw [e1, ← tm_sm_k]
  refine tm_sm_congr (fun p hp => ?_)
  have e2 : tm_ct (fun m => F m && tm_lt d (tm_ig d p m)) (tm_NN d) = tm_ct (fun m => (fun x => tm_lt d x && F x) (tm_ig d p m)) (tm_NN d) := tm_ct_congr (fun m hm => by
    show (F m && tm_lt d (tm_ig d p m)) = (tm_lt d (tm_ig d p m) && F (tm_ig d p m))
    rw [hF p hp m hm, Bool.and_comm])
  rw [e2]
  exact tm_ct_pm (fun x => tm_lt d x && F x) (tm_ig d p) (tm_ig d (tm_iv p)) (fun m hm => ⟨tm_ig_lt _ _ _, tm_ig_l h1 h3 hp hm⟩) (fun m hm => ⟨tm_ig_lt _ _ _, tm_ig_r h1 h3 hp hm⟩)
/-! validity is the same for interpretations of one shape -/
def tm_lm (p l : Nat) : Nat := tm_sg p (l % 3) + 3 * tm_sg p (l / 3 % 3) + 9 * tm_sg p (l / 9)
theorem tm_g1 : ∀ p, p < 6 → ∀ e, e < 3 → tm_sg p e < 3 := by decide +kernel
theorem tm_lm_el {p l v : Nat} (hp : p < 6) (hl : l < 27) : tm_el (tm_lm p l) v = tm_sg p (tm_el l v) := by
  have a1 := tm_g1 p hp (l % 3) (by omega)
  have a2 := tm_g1 p hp (l / 3 % 3) (by omega)
  have a3 := tm_g1 p hp (l / 9) (by omega)
  unfold tm_el tm_lm
  by_cases z : v = 0
  · rw [if_pos z, if_pos z]; omega
  · by_cases y : v = 1
    · rw [if_neg z, if_pos y, if_neg z, if_pos y]; omega
    · rw [if_neg z, if_neg y, if_neg z, if_neg y]; omega
theorem tm_lm_isl {d p l : Nat} (h3 : d ≤ 3) (hp : p < tm_mp d) (hl : tm_isl d l = true) : tm_isl d (tm_lm p l) = true := by
  have h6 := tm_mp6 d
  obtain ⟨b0, b1, b2, b3⟩ := tm_isl_iff.mp hl
  have a1 := ((tm_f1 d (by omega) p hp).2 (l % 3) b1).1
  have a2 := ((tm_f1 d (by omega) p hp).2 (l / 3 % 3) b2).1
  have a3 := ((tm_f1 d (by omega) p hp).2 (l / 9) b3).1
  refine tm_isl_iff.mpr ?_
  unfold tm_lm
  refine ⟨by omega, by omega, by omega, by omega⟩
theorem tm_lm_wt : ∀ p, p < 6 → ∀ l, l < 27 → ∀ v, v < 3 → ∀ e, e < 3 → tm_wt (tm_lm p l) v (tm_sg p e) = tm_lm p (tm_wt l v e) := by decide +kernel
theorem tm_ig_p {d p m e : Nat} (h1 : 1 ≤ d) (h3 : d ≤ 3) (hp : p < tm_mp d) (he : e < d) : (tm_ig d p m).testBit (tm_sg p e) = m.testBit e := by
  have a := ((tm_f1 d (by omega) p hp).2 e he).1
  rw [tm_ig_b _ _ _ (by omega), (tm_f6 d (by omega) h1 p hp e he).1]
theorem tm_ig_rl {d p m e f : Nat} (h1 : 1 ≤ d) (h3 : d ≤ 3) (hp : p < tm_mp d) (he : e < d) (hf : f < d) : tm_rl d (tm_ig d p m) (tm_sg p e) (tm_sg p f) = tm_rl d m e f := by
  have a := (tm_f6 d (by omega) h1 p hp e he).2 f hf
  unfold tm_rl
  rw [tm_ig_b _ _ _ a.1, a.2]
theorem tm_ig_rc {d p m e f : Nat} (h1 : 1 ≤ d) (h3 : d ≤ 3) (hp : p < tm_mp d) (he : e < d) (hf : f < d) : tm_rc d (tm_ig d p m) (tm_sg p e) (tm_sg p f) = tm_rc d m e f := by
  have F := (tm_f1 d (by omega) p hp).2
  cases c : tm_rc d m e f
  · cases c2 : tm_rc d (tm_ig d p m) (tm_sg p e) (tm_sg p f)
    · rfl
    · have : tm_rc d m e f = true := by
        rcases tm_rc_c c2 with z | z | ⟨x, hx, z1, z2⟩
        · have a := congrArg (tm_sg (tm_iv p)) z
          rw [(F e he).2.2.2, (F f hf).2.2.2] at a
          rw [a]; exact tm_rc_0
        · rw [tm_ig_rl h1 h3 hp he hf] at z
          exact tm_rc_1 z
        · have b := F x hx
          rw [← b.2.2.1] at z1 z2
          rw [tm_ig_rl h1 h3 hp he b.2.1] at z1
          rw [tm_ig_rl h1 h3 hp b.2.1 hf] at z2
          exact tm_rc_2 b.2.1 z1 z2
      rw [c] at this
      exact nomatch this
  · rcases tm_rc_c c with z | z | ⟨x, hx, z1, z2⟩
    · rw [z]; exact tm_rc_0
    · exact tm_rc_1 (by rw [tm_ig_rl h1 h3 hp he hf]; exact z)
    · exact tm_rc_2 (F x hx).1 (by rw [tm_ig_rl h1 h3 hp he hx]; exact z1) (by rw [tm_ig_rl h1 h3 hp hx hf]; exact z2)
theorem tm_ig_at {d p m k a l : Nat} (h1 : 1 ≤ d) (h3 : d ≤ 3) (hp : p < tm_mp d) (hl : tm_isl d l = true) : tm_at d (tm_ig d p m) k a (tm_lm p l) = tm_at d m k a l := by
  have h6 := tm_mp6 d
  have h27 := (tm_isl_iff.mp hl).1
  have F := (tm_f1 d (by omega) p hp).2
  unfold tm_at
  rw [tm_lm_el (by omega) h27, tm_lm_el (by omega) h27, tm_lm_el (by omega) h27, tm_ig_p h1 h3 hp (tm_el_d hl), tm_ig_rl h1 h3 hp (tm_el_d hl) (tm_el_d hl), tm_ig_rc h1 h3 hp (tm_el_d hl) (tm_el_d hl)]
  have e : decide (tm_sg p (tm_el l (a / 3)) = tm_sg p (tm_el l (a % 3))) = decide (tm_el l (a / 3) = tm_el l (a % 3)) := by
    by_cases z : tm_el l (a / 3) = tm_el l (a % 3)
    · rw [decide_eq_true z, z, decide_eq_true rfl]
    · rw [decide_eq_false z, decide_eq_false (fun y => z ?_)]
      have b := congrArg (tm_sg (tm_iv p)) y
      rw [(F _ (tm_el_d hl)).2.2.2, (F _ (tm_el_d hl)).2.2.2] at b
      exact b
  rw [e]
theorem tm_ig_sv {d p m : Nat} {f : tm_F} (h1 : 1 ≤ d) (h3 : d ≤ 3) (hp : p < tm_mp d) : ∀ (i q l : Nat), tm_isl d l = true → tm_sv d (tm_ig d p m) f i q (tm_lm p l) = tm_sv d m f i q l := by
  have h6 := tm_mp6 d
  have F := (tm_f1 d (by omega) p hp)
  intro i
  induction i with
  | zero => intro q l _; rfl
  | succ i ih =>
    intro q l hl
    have h27 := (tm_isl_iff.mp hl).1
    by_cases c4 : tm_k f i < 4
    · rw [tm_sv_at c4, tm_sv_at c4, ih q l hl, tm_ig_at h1 h3 hp hl]
    · by_cases e4 : tm_k f i = 4
      · rw [tm_sv_not e4, tm_sv_not e4, ih q l hl]
      · by_cases c9 : tm_k f i < 9
        · rw [tm_sv_cb (by omega) c9, tm_sv_cb (by omega) c9, ih q l hl, ih (q + 1) l hl]
        · rw [tm_sv_qt (by omega), tm_sv_qt (by omega), ih q l hl]
          have e : tm_ct (fun e => tm_sv d (tm_ig d p m) f i q (tm_wt (tm_lm p l) (tm_a f i % 3) e)) d = tm_ct (fun e => tm_sv d m f i q (tm_wt l (tm_a f i % 3) e)) d := by
            rw [← tm_ct_pm (fun e => tm_sv d (tm_ig d p m) f i q (tm_wt (tm_lm p l) (tm_a f i % 3) e)) (tm_sg p) (tm_sg (tm_iv p)) (fun e he => ⟨(F.2 e he).1, (F.2 e he).2.2.2⟩) (fun e he => ⟨(F.2 e he).2.1, (F.2 e he).2.2.1⟩)]
            refine tm_ct_congr (fun e he => ?_)
            show tm_sv d (tm_ig d p m) f i q (tm_wt (tm_lm p l) (tm_a f i % 3) (tm_sg p e)) = _
            rw [tm_lm_wt p (by omega) l h27 (tm_a f i % 3) (by omega) e (by omega)]
            exact ih q _ (tm_wt_isl hl he h3)
          have e2 : tm_qt d (tm_k f i) (tm_a f i) (fun e => tm_sv d (tm_ig d p m) f i q (tm_wt (tm_lm p l) (tm_a f i % 3) e)) = tm_qt d (tm_k f i) (tm_a f i) (fun e => tm_sv d m f i q (tm_wt l (tm_a f i % 3) e)) := by
            unfold tm_qt; rw [e]
          rw [e2]
theorem tm_ig_vd1 {d p m : Nat} {f : tm_F} (h1 : 1 ≤ d) (h3 : d ≤ 3) (hp : p < tm_mp d) (h : tm_vd d (tm_ig d p m) f = true) : tm_vd d m f = true := by
  rw [tm_vd_iff] at h ⊢
  intro l hl
  rw [← tm_ig_sv h1 h3 hp f.1 0 l hl]
  exact h _ (tm_lm_isl h3 hp hl)
theorem tm_ig_vd {d p m : Nat} {f : tm_F} (h1 : 1 ≤ d) (h3 : d ≤ 3) (hp : p < tm_mp d) (hm : m < tm_NN d) : tm_vd d (tm_ig d p m) f = tm_vd d m f := by
  cases c : tm_vd d m f
  · cases c2 : tm_vd d (tm_ig d p m) f
    · rfl
    · rw [tm_ig_vd1 h1 h3 hp c2] at c
      exact nomatch c
  · refine tm_ig_vd1 (p := tm_iv p) h1 h3 (tm_f1 d (by omega) p hp).1 ?_
    rw [tm_ig_l h1 h3 hp hm]
    exact c
theorem tm_ig_ft {d na : Nat} {T : Nat → tm_F} {wo : Int32} {p m : Nat} (h1 : 1 ≤ d) (h3 : d ≤ 3) (hp : p < tm_mp d) (hm : m < tm_NN d) : tm_ft d na T wo (tm_ig d p m) = tm_ft d na T wo m := by
  unfold tm_ft
  exact tm_al_congr (fun j _ => by rw [tm_ig_vd h1 h3 hp hm])
end
section
/-! images of interpretations, shapes: the component -/
def tm_IV (d : Nat) (s : Nat → Nat) (m u ee ff : Nat) (r : Int32) : Prop := ∀ i, i < 32 → (bt r i = true ↔ (∃ e, e < d ∧ e < u ∧ s e = i ∧ m.testBit e = true) ∨ (∃ e f, e < d ∧ f < d ∧ (e < ee ∨ (e = ee ∧ f < ff)) ∧ d + d * s e + s f = i ∧ m.testBit (d + d * e + f) = true))
theorem tm_IV_0 (d : Nat) (s : Nat → Nat) (m : Nat) : tm_IV d s m 0 0 0 0 := by
  intro i _
  rw [b_0]
  constructor
  · intro h; exact nomatch h
  · intro h
    rcases h with ⟨e, h1, h2, _⟩ | ⟨e, f, h1, h2, h3, _⟩ <;> omega
theorem tm_IV_u {d : Nat} {s : Nat → Nat} {m u ee ff : Nat} {r r' : Int32} (hu : u < d) (h : tm_IV d s m u ee ff r) (hr : ∀ i, i < 32 → bt r' i = (bt r i || (decide (i = s u) && m.testBit u))) : tm_IV d s m (u + 1) ee ff r' := by
  intro i hi
  rw [hr i hi, Bool.or_eq_true, h i hi, Bool.and_eq_true, decide_eq_true_iff]
  constructor
  · intro z
    rcases z with (⟨e, a1, a2, a3, a4⟩ | z) | ⟨a1, a2⟩
    · exact Or.inl ⟨e, a1, by omega, a3, a4⟩
    · exact Or.inr z
    · exact Or.inl ⟨u, hu, by omega, a1.symm, a2⟩
  · intro z
    rcases z with ⟨e, a1, a2, a3, a4⟩ | z
    · by_cases c : e = u
      · subst c; exact Or.inr ⟨a3.symm, a4⟩
      · exact Or.inl (Or.inl ⟨e, a1, by omega, a3, a4⟩)
    · exact Or.inl (Or.inr z)
theorem tm_IV_p {d : Nat} {s : Nat → Nat} {m u ee ff : Nat} {r r' : Int32} (he : ee < d) (hf : ff < d) (h : tm_IV d s m u ee ff r) (hr : ∀ i, i < 32 → bt r' i = (bt r i || (decide (i = d + d * s ee + s ff) && m.testBit (d + d * ee + ff)))) : tm_IV d s m u ee (ff + 1) r' := by
  intro i hi
  rw [hr i hi, Bool.or_eq_true, h i hi, Bool.and_eq_true, decide_eq_true_iff]
  constructor
  · intro z
    rcases z with (z | ⟨e, f, a1, a2, a3, a4, a5⟩) | ⟨a1, a2⟩
    · exact Or.inl z
    · exact Or.inr ⟨e, f, a1, a2, by omega, a4, a5⟩
    · exact Or.inr ⟨ee, ff, he, hf, by omega, a1.symm, a2⟩
  · intro z
    rcases z with z | ⟨e, f, a1, a2, a3, a4, a5⟩
    · exact Or.inl (Or.inl z)
    · by_cases c : e = ee ∧ f = ff
      · obtain ⟨c1, c2⟩ := c
        subst c1 c2
        exact Or.inr ⟨a4.symm, a5⟩
      · exact Or.inl (Or.inr ⟨e, f, a1, a2, by omega, a4, a5⟩)
theorem tm_IV_n {d : Nat} {s : Nat → Nat} {m u ee : Nat} {r : Int32} (h : tm_IV d s m u ee d r) : tm_IV d s m u (ee + 1) 0 r := by
  intro i hi
  rw [h i hi]
  constructor
  · intro z
    rcases z with z | ⟨e, f, a1, a2, a3, a4, a5⟩
    · exact Or.inl z
    · exact Or.inr ⟨e, f, a1, a2, by omega, a4, a5⟩
  · intro z
    rcases z with z | ⟨e, f, a1, a2, a3, a4, a5⟩
    · exact Or.inl z
    · exact Or.inr ⟨e, f, a1, a2, by omega, a4, a5⟩
theorem tm_dm {d i : Nat} (h1 : 1 ≤ d) (h3 : d ≤ 3) (h : ¬ i < d) (hi : i < d + d * d) : (i - d) / d < d ∧ (i - d) % d < d ∧ d + d * ((i - d) / d) + (i - d) % d = i := by
  have : d = 1 ∨ d = 2 ∨ d = 3 := by omega
  rcases this with rfl | rfl | rfl <;> omega
theorem tm_IV_e {d p m : Nat} {s : Nat → Nat} {r : Int32} (h1 : 1 ≤ d) (h3 : d ≤ 3) (hp : p < tm_mp d) (hs : ∀ e, e < d → s e = tm_sg p e) (h : tm_IV d s m d d 0 r) : r = nI (tm_ig d p m) := by
  have F := (tm_f1 d (by omega) p hp).2
  apply b_ext
  intro i hi
  rw [nb_tb _ hi]
  have e : (bt r i = true) ↔ ((tm_ig d p m).testBit i = true) := by
    rw [h i hi]
    constructor
    · intro z
      rcases z with ⟨e, a1, a2, a3, a4⟩ | ⟨e, f, a1, a2, a3, a4, a5⟩
      · rw [hs e a1] at a3
        rw [← a3, tm_ig_p h1 h3 hp a1]
        exact a4
      · rw [hs e a1, hs f a2] at a4
        have b := tm_ig_rl (m := m) h1 h3 hp a1 a2
        unfold tm_rl at b
        rw [← a4, b]
        exact a5
    · intro z
      unfold tm_ig at z
      rw [tm_nb_b, Bool.and_eq_true, decide_eq_true_iff] at z
      obtain ⟨z1, z2⟩ := z
      unfold tm_c at z2
      by_cases c : i < d
      · rw [if_pos c] at z2
        have b := F i c
        exact Or.inl ⟨_, b.2.1, b.2.1, by rw [hs _ b.2.1]; exact b.2.2.1, z2⟩
      · rw [if_neg c] at z2
        obtain ⟨q1, q2, q3⟩ := tm_dm h1 h3 c z1
        have b1 := F _ q1
        have b2 := F _ q2
        refine Or.inr ⟨_, _, b1.2.1, b2.2.1, Or.inl b1.2.1, ?_, z2⟩
        rw [hs _ b1.2.1, hs _ b2.2.1, b1.2.2.1, b2.2.2.1]
        exact q3
  cases c : (tm_ig d p m).testBit i
  · cases c2 : bt r i
    · rfl
    · rw [e.mp c2] at c
      exact nomatch c
  · exact e.mpr c
theorem nb_sc (c : Bool) {q i : Nat} (hq : q < 32) (hi : i < 32) : bt (nI c.toNat <<< (nI q &&& 31)) i = (decide (i = q) && c) := by
  cases c
  · rw [Bool.and_false, b_shl q hq _ hi]
    show (decide (q ≤ i) && bt 0 (i - q)) = false
    rw [b_0, Bool.and_false]
  · rw [Bool.and_true]
    exact nb_s1 hq hi
/-- interpretations that a map leaves as they are -/
def tm_st (d p m : Nat) : Bool := tm_al (fun e => !(m.testBit e ^^ m.testBit (tm_sg p e)) && tm_al (fun f => !(tm_rl d m e f ^^ tm_rl d m (tm_sg p e) (tm_sg p f))) d) d
theorem tm_nx_eq {a b : Bool} : (!(a ^^ b)) = true ↔ a = b := by cases a <;> cases b <;> decide
theorem tm_st_iff {d p m : Nat} : tm_st d p m = true ↔ ∀ e, e < d → m.testBit e = m.testBit (tm_sg p e) ∧ ∀ f, f < d → tm_rl d m e f = tm_rl d m (tm_sg p e) (tm_sg p f) := by
  unfold tm_st
  rw [tm_al_iff]
  constructor
  · intro h e he
    have a := h e he
    rw [Bool.and_eq_true, tm_nx_eq, tm_al_iff] at a
    exact ⟨a.1, fun f hf => tm_nx_eq.mp (a.2 f hf)⟩
  · intro h e he
    rw [Bool.and_eq_true, tm_nx_eq, tm_al_iff]
    exact ⟨(h e he).1, fun f hf => tm_nx_eq.mpr ((h e he).2 f hf)⟩
theorem tm_st_ig {d p m : Nat} (h1 : 1 ≤ d) (h3 : d ≤ 3) (hp : p < tm_mp d) (hm : m < tm_NN d) : tm_st d p m = decide (tm_ig d p m = m) := by
  have F := (tm_f1 d (by omega) p hp).2
  by_cases z : tm_ig d p m = m
  · rw [decide_eq_true z, tm_st_iff]
    intro e he
    refine ⟨?_, fun f hf => ?_⟩
    · have a := tm_ig_p (m := m) h1 h3 hp he
      rw [z] at a
      exact a.symm
    · have a := tm_ig_rl (m := m) h1 h3 hp he hf
      rw [z] at a
      exact a.symm
  · rw [decide_eq_false z]
    cases c : tm_st d p m
    · rfl
    · rw [tm_st_iff] at c
      refine absurd (tm_eq_b (tm_ig_lt _ _ _) hm (fun i hi => ?_)) z
      rw [tm_ig_b _ _ _ hi]
      unfold tm_c
      by_cases y : i < d
      · have b := F i y
        rw [if_pos y, (c _ b.2.1).1, b.2.2.1]
      · obtain ⟨q1, q2, q3⟩ := tm_dm h1 h3 y hi
        have b1 := F _ q1
        have b2 := F _ q2
        have a := (c _ b1.2.1).2 _ b2.2.1
        rw [b1.2.2.1, b2.2.2.1] at a
        unfold tm_rl at a
        rw [q3] at a
        rw [if_neg y]
        exact a
/-- the sum over all parts and maps -/
theorem tm_shp {d na : Nat} {T : Nat → tm_F} (h1 : 1 ≤ d) (h3 : d ≤ 3) : tm_sm (fun q => tm_sm (fun p => tm_ct (fun b => tm_mo d na T (64 * q + b) && tm_st d p (64 * q + b)) 64) (tm_mp d)) (tm_pt d) = tm_mp d * tm_ct (fun m => tm_lt d m && tm_ft d na T (-1) m) (tm_NN d) := by
  rw [tm_sm_sw (fun q p => tm_ct (fun b => tm_mo d na T (64 * q + b) && tm_st d p (64 * q + b)) 64), ← tm_burn (F := tm_ft d na T (-1)) h1 h3 (fun p hp m hm => tm_ig_ft h1 h3 hp hm)]
  refine tm_sm_congr (fun p hp => ?_)
  rw [tm_ct_64 (fun m => tm_mo d na T m && tm_st d p m)]
  exact tm_cN (tm_pt_NN h1 h3) (fun m hm => by rw [tm_mo_y hm, tm_st_ig h1 h3 hp hm]) (fun m hm => by rw [tm_mo_n hm, Bool.false_and])
def xw_IM (im : Nat → Int32) : Prop := ∀ p e, p < 6 → e < 3 → im (3 * p + e) = nI (tm_sg p e)
section
variable {fh fa fe fk fs fd : Int32} {kd ag st ln al : Nat → Int32} {mb : Nat → Int64} {im : Nat → Int32} {pr rl rc tb fr hel : Nat → Int64}
theorem xw_im_47 {post : Int32 → Prop} {J : Int32 → Int32 → Prop} {d p m e : Nat} (h1 : 1 ≤ d) (h3 : d ≤ 3) (hp : p < tm_mp d) (IM : xw_IM im) (he : e < d)
    (K : ∀ x, tm_IV d (tm_sg p) m (e + 1) e d x → J x (nI (e + 1))) :
    ∀ (r f : Nat) (x : Int32), f + r = d → tm_IV d (tm_sg p) m (e + 1) e f x → wX_imageOf_47 post J (nI m) (nI p) (nI d) (nI e) (nI (tm_sg p e)) fh fa fe fk fs fd kd ag st ln al mb im pr rl rc tb fr hel (r + 1) x (nI f) := by
  have h6 := tm_mp6 d
  have F := (tm_f1 d (by omega) p hp).2
  intro r
  induction r with
  | zero =>
    intro f x h w
    have z : f = d := by omega
    subst z
    exact br_t (nI_le (Nat.le_refl _) (by omega)) (nm_r (nI_1 e) (K x w))
  | succ r ih =>
    intro f x h w
    have hf : f < d := by omega
    have q1 := xi_dd12 h3 he hf
    have q2 := xi_dd12 h3 (F e he).1 (F f hf).1
    refine br_f (nI_ge (by omega) (by omega)) ?_
    rw [xi_3, nI_clamp (show 3 * p + f < 2 ^ 31 by omega), IM p f (by omega) (by omega)]
    refine ⟨vp_in_nI (by omega) (by decide), nm_e ?_⟩
    rw [xi_dde, xi_dde, nb_m m (by omega)]
    refine nm_e (nm_r (nI_1 f) (ih (f + 1) _ (by omega) (tm_IV_p he hf w (fun i hi => ?_))))
    rw [b_or, nb_sc _ (by omega) hi]
theorem xw_im_11 {post : Int32 → Prop} {d p m : Nat} (h1 : 1 ≤ d) (h3 : d ≤ 3) (hp : p < tm_mp d) (IM : xw_IM im) (K : post (nI (tm_ig d p m))) :
    ∀ (r e : Nat) (x : Int32), e + r = d → tm_IV d (tm_sg p) m e e 0 x → wX_imageOf_11 post (nI m) (nI p) (nI d) fh fa fe fk fs fd kd ag st ln al mb im pr rl rc tb fr hel (r + 1) x (nI e) := by
  have h6 := tm_mp6 d
  have F := (tm_f1 d (by omega) p hp).2
  intro r
  induction r with
  | zero =>
    intro e x h w
    have z : e = d := by omega
    subst z
    rw [tm_IV_e h1 h3 hp (fun _ _ => rfl) w]
    exact br_t (nI_le (Nat.le_refl _) (by omega)) K
  | succ r ih =>
    intro e x h w
    have he : e < d := by omega
    have q := (F e he).1
    refine br_f (nI_ge (by omega) (by omega)) ?_
    rw [xi_3, nI_clamp (show 3 * p + e < 2 ^ 31 by omega), IM p e (by omega) (by omega)]
    refine ⟨vp_in_nI (by omega) (by decide), nm_e ?_⟩
    rw [nb_m m (by omega)]
    refine nm_e ⟨d + 1, xw_im_47 h1 h3 hp IM he (fun x' w' => ih (e + 1) x' (by omega) (tm_IV_n w')) d 0 _ (by omega) (tm_IV_u he w (fun i hi => ?_))⟩
    rw [b_or, nb_sc _ (by omega) hi]
theorem xw_img {post : Int32 → Prop} {d p m : Nat} (h1 : 1 ≤ d) (h3 : d ≤ 3) (hp : p < tm_mp d) (IM : xw_IM im) (K : post (nI (tm_ig d p m))) : wpX_imageOf post (fh, fa, nI d, fk, fs, fd, kd, ag, st, ln, al, mb, im, pr, rl, rc, tb, fr, hel) (nI m) (nI p) :=
  ⟨d + 1, xw_im_11 h1 h3 hp IM K d 0 0 (by omega) (tm_IV_0 _ _ _)⟩
theorem tm_ig_31 {d p m : Nat} (h3 : d ≤ 3) : tm_ig d p m < 2 ^ 31 := Nat.lt_trans (tm_ig_lt d p m) (tm_NN_b h3)
theorem xw_ss_20 {post : Int32 → Prop} {d m o : Nat} (h1 : 1 ≤ d) (h3 : d ≤ 3) (ho : o < tm_NN d) (IM : xw_IM im) (K : post (nI (tm_an (fun p => decide (tm_ig d p m = o)) (tm_mp d)).toNat)) :
    ∀ r p : Nat, p + r = tm_mp d → (∀ q, q < p → decide (tm_ig d q m = o) = false) → wX_sameShape_20 post (nI m) (nI o) fh fa (nI d) fk fs fd kd ag st ln al mb im pr rl rc tb fr hel (r + 1) (nI p) := by
  have h6 := tm_mp6 d
  have hN := tm_NN_b h3
  intro r
  induction r with
  | zero =>
    intro p h w
    have z : p = tm_mp d := by omega
    rw [z] at w
    rw [z, wX_sameShape_20]
    refine xw_maps h3 ?_
    rw [tm_an_0.mpr w] at K
    exact br_t (nI_le (Nat.le_refl _) (by omega)) K
  | succ r ih =>
    intro p h w
    rw [wX_sameShape_20]
    refine xw_maps h3 ?_
    refine br_f (nI_ge (by omega) (by omega)) (xw_img h1 h3 (by omega) IM ?_)
    refine pk_eq _ o (fun z => ?_) (fun z => nm_r (nI_1 p) (ih (p + 1) (by omega) (fun q hq => ?_))) rfl rfl (tm_ig_31 h3) (by omega)
    · rw [(tm_an_iff _ _).mpr ⟨p, by omega, decide_eq_true z⟩] at K
      exact K
    · rcases Nat.lt_or_ge q p with y | y
      · exact w q y
      · have : q = p := by omega
        rw [this]
        exact decide_eq_false z
theorem xw_sameShape_y {post : Int32 → Prop} {d m o : Nat} (h1 : 1 ≤ d) (h3 : d ≤ 3) (hm : m < tm_NN d) (ho : o < tm_NN d) (IM : xw_IM im) (K : post (nI (tm_an (fun p => decide (tm_ig d p m = o)) (tm_mp d)).toNat)) : wpX_sameShape post (fh, fa, nI d, fk, fs, fd, kd, ag, st, ln, al, mb, im, pr, rl, rc, tb, fr, hel) (nI m) (nI o) := by
  unfold wpX_sameShape
  dsimp only
  exact xw_num_y h1 h3 hm (br_f (by decide) (xw_num_y h1 h3 ho (br_f (by decide) ⟨_, xw_ss_20 h1 h3 ho IM K (tm_mp d) 0 (by omega) (fun q hq => absurd hq (Nat.not_lt_zero q))⟩)))
theorem xw_sameShape_n {post : Int32 → Prop} {d : Nat} {x y : Int32} (h1 : 1 ≤ d) (h3 : d ≤ 3) (h : (x < 0 ∨ nI (tm_NN d) ≤ x) ∨ (y < 0 ∨ nI (tm_NN d) ≤ y)) (K : post (-1)) : wpX_sameShape post (fh, fa, nI d, fk, fs, fd, kd, ag, st, ln, al, mb, im, pr, rl, rc, tb, fr, hel) x y := by
  unfold wpX_sameShape
  dsimp only
  rcases pk_ix x (tm_NN_b h3) with z | z | ⟨m, hm, rfl⟩
  · exact xw_num_n h1 h3 (Or.inl z) (br_t rfl K)
  · exact xw_num_n h1 h3 (Or.inr z) (br_t rfl K)
  · rcases h with h | h
    · exact xw_num_n h1 h3 h (br_t rfl K)
    · exact xw_num_y h1 h3 hm (br_f (by decide) (xw_num_n h1 h3 h (br_t rfl K)))
theorem xw_sy_14 {post : Int32 → Prop} {d m : Nat} (h1 : 1 ≤ d) (h3 : d ≤ 3) (hm : m < tm_NN d) (IM : xw_IM im) (K : post (nI (tm_ct (fun p => decide (tm_ig d p m = m)) (tm_mp d)))) :
    ∀ r p : Nat, p + r = tm_mp d → wX_symmetries_14 post (nI m) fh fa (nI d) fk fs fd kd ag st ln al mb im pr rl rc tb fr hel (r + 1) (nI (tm_ct (fun p => decide (tm_ig d p m = m)) p)) (nI p) := by
  have h6 := tm_mp6 d
  have hN := tm_NN_b h3
  intro r
  induction r with
  | zero =>
    intro p h
    have z : p = tm_mp d := by omega
    rw [z, wX_symmetries_14]
    refine xw_maps h3 ?_
    exact br_t (nI_le (Nat.le_refl _) (by omega)) K
  | succ r ih =>
    intro p h
    have t := ih (p + 1) (by omega)
    have es : tm_ct (fun p => decide (tm_ig d p m = m)) (p + 1) = tm_ct (fun p => decide (tm_ig d p m = m)) p + (decide (tm_ig d p m = m)).toNat := rfl
    rw [wX_symmetries_14]
    refine xw_maps h3 ?_
    refine br_f (nI_ge (by omega) (by omega)) (xw_img h1 h3 (by omega) IM ?_)
    refine pk_eq _ m (fun z => ?_) (fun z => ?_) rfl rfl (tm_ig_31 h3) (by omega)
    · rw [es, decide_eq_true z] at t
      exact nm_r (nI_1 _) (nm_r (nI_1 p) t)
    · rw [es, decide_eq_false z] at t
      exact nm_r (Int32.add_zero _) (nm_r (nI_1 p) t)
theorem xw_sym_y {post : Int32 → Prop} {d m : Nat} (h1 : 1 ≤ d) (h3 : d ≤ 3) (hm : m < tm_NN d) (IM : xw_IM im) (K : post (nI (tm_ct (fun p => decide (tm_ig d p m = m)) (tm_mp d)))) : wpX_symmetries post (fh, fa, nI d, fk, fs, fd, kd, ag, st, ln, al, mb, im, pr, rl, rc, tb, fr, hel) (nI m) := by
  unfold wpX_symmetries
  dsimp only
  exact xw_num_y h1 h3 hm (br_f (by decide) ⟨_, xw_sy_14 h1 h3 hm IM K (tm_mp d) 0 (by omega)⟩)
theorem xw_sym_n {post : Int32 → Prop} {d : Nat} {x : Int32} (h1 : 1 ≤ d) (h3 : d ≤ 3) (h : x < 0 ∨ nI (tm_NN d) ≤ x) (K : post (-1)) : wpX_symmetries post (fh, fa, nI d, fk, fs, fd, kd, ag, st, ln, al, mb, im, pr, rl, rc, tb, fr, hel) x := by
  unfold wpX_symmetries
  dsimp only
  exact xw_num_n h1 h3 h (br_t rfl K)
/-! shapes -/
theorem xw_su_54 {post : Int64 → Prop} {J : Int64 → Int32 → Prop} {d p part e : Nat} (h1 : 1 ≤ d) (h3 : d ≤ 3) (hp : p < tm_mp d) (IM : xw_IM im) (L : xw_LP d part pr rl rc) (he : e < d) {g : Nat → Bool}
    (K : ∀ x, (∀ b, b < 64 → nb_b x b = (g b && tm_al (fun f => !(tm_rl d (64 * part + b) e f ^^ tm_rl d (64 * part + b) (tm_sg p e) (tm_sg p f))) d)) → J x (nI (e + 1))) :
    ∀ (r f : Nat) (x : Int64), f + r = d → (∀ b, b < 64 → nb_b x b = (g b && tm_al (fun f => !(tm_rl d (64 * part + b) e f ^^ tm_rl d (64 * part + b) (tm_sg p e) (tm_sg p f))) f)) → wX_stillUnder_54 post J (nI p) (nI e) (nI (tm_sg p e)) fh fa fe fk (nI d) fd kd ag st ln al mb im pr rl rc tb fr hel (r + 1) x (nI f) := by
  have h6 := tm_mp6 d
  have F := (tm_f1 d (by omega) p hp).2
  intro r
  induction r with
  | zero =>
    intro f x h w
    have z : f = d := by omega
    subst z
    exact br_t (nI_le (Nat.le_refl _) (by omega)) (nm_r (nI_1 e) (K x w))
  | succ r ih =>
    intro f x h w
    have hf : f < d := by omega
    have q1 := (F e he).1
    have q2 := (F f hf).1
    refine br_f (nI_ge (by omega) (by omega)) ?_
    rw [xi_3, xi_3, nI_clamp (show 3 * p + f < 2 ^ 31 by omega), IM p f (by omega) (by omega), xi_3, nI_clamp (show 3 * e + f < 2 ^ 31 by omega), nI_clamp (show 3 * tm_sg p e + tm_sg p f < 2 ^ 31 by omega)]
    refine ⟨vp_in_nI (by omega) (by decide), vp_in_nI (by omega) (by decide), vp_in_nI (by omega) (by decide), nm_e (nm_r (nI_1 f) (ih (f + 1) _ (by omega) (fun b hb => ?_)))⟩
    show _ = (g b && (tm_al (fun f => !(tm_rl d (64 * part + b) e f ^^ tm_rl d (64 * part + b) (tm_sg p e) (tm_sg p f))) f && !(tm_rl d (64 * part + b) e f ^^ tm_rl d (64 * part + b) (tm_sg p e) (tm_sg p f))))
    rw [nb_and, w b hb, nb_not _ hb, nb_xor, L.2.1 e f he hf b hb, L.2.1 _ _ q1 q2 b hb, Bool.and_assoc]
theorem xw_su_7 {post : Int64 → Prop} {d p part : Nat} (h1 : 1 ≤ d) (h3 : d ≤ 3) (hp : p < tm_mp d) (IM : xw_IM im) (L : xw_LP d part pr rl rc)
    (K : ∀ x, (∀ b, b < 64 → nb_b x b = tm_st d p (64 * part + b)) → post x) :
    ∀ (r e : Nat) (x : Int64), e + r = d → (∀ b, b < 64 → nb_b x b = tm_al (fun e => !((64 * part + b).testBit e ^^ (64 * part + b).testBit (tm_sg p e)) && tm_al (fun f => !(tm_rl d (64 * part + b) e f ^^ tm_rl d (64 * part + b) (tm_sg p e) (tm_sg p f))) d) e) → wX_stillUnder_7 post (nI p) fh fa fe fk (nI d) fd kd ag st ln al mb im pr rl rc tb fr hel (r + 1) x (nI e) := by
  have h6 := tm_mp6 d
  have F := (tm_f1 d (by omega) p hp).2
  intro r
  induction r with
  | zero =>
    intro e x h w
    have z : e = d := by omega
    subst z
    exact br_t (nI_le (Nat.le_refl _) (by omega)) (K x w)
  | succ r ih =>
    intro e x h w
    have he : e < d := by omega
    have q1 := (F e he).1
    refine br_f (nI_ge (by omega) (by omega)) ?_
    rw [xi_3, nI_clamp (show 3 * p + e < 2 ^ 31 by omega), IM p e (by omega) (by omega), nI_clamp (show e < 2 ^ 31 by omega)]
    refine ⟨vp_in_nI (by omega) (by decide), nm_e ⟨vp_in_nI (by omega) (by decide), vp_in_nI (by omega) (by decide), nm_e ⟨d + 1, xw_su_54 h1 h3 hp IM L he (g := fun b => tm_al (fun e => !((64 * part + b).testBit e ^^ (64 * part + b).testBit (tm_sg p e)) && tm_al (fun f => !(tm_rl d (64 * part + b) e f ^^ tm_rl d (64 * part + b) (tm_sg p e) (tm_sg p f))) d) e && !((64 * part + b).testBit e ^^ (64 * part + b).testBit (tm_sg p e))) (fun x' w' => ih (e + 1) x' (by omega) (fun b hb => ?_)) d 0 _ (by omega) (fun b hb => ?_)⟩⟩⟩
    · rw [w' b hb, Bool.and_assoc]; rfl
    · rw [nI_clamp (show tm_sg p e < 2 ^ 31 by omega), nb_and, nb_not _ hb, nb_xor, w b hb, L.1 e he b hb, L.1 _ q1 b hb]
      exact (Bool.and_true _).symm
theorem xw_su {post : Int64 → Prop} {d p part : Nat} (h1 : 1 ≤ d) (h3 : d ≤ 3) (hp : p < tm_mp d) (IM : xw_IM im) (L : xw_LP d part pr rl rc)
    (K : ∀ x, (∀ b, b < 64 → nb_b x b = tm_st d p (64 * part + b)) → post x) : wpX_stillUnder post (fh, fa, fe, fk, nI d, fd, kd, ag, st, ln, al, mb, im, pr, rl, rc, tb, fr, hel) (nI p) :=
  ⟨d + 1, xw_su_7 h1 h3 hp IM L K d 0 (-1) (by omega) (fun b hb => nb_m1 b hb)⟩
theorem xw_fx_6 {post : Int32 → Prop} {d part : Nat} {among : Int64} (h1 : 1 ≤ d) (h3 : d ≤ 3) (IM : xw_IM im) (L : xw_LP d part pr rl rc)
    (K : post (nI (tm_sm (fun p => tm_ct (fun b => nb_b among b && tm_st d p (64 * part + b)) 64) (tm_mp d)))) :
    ∀ r p : Nat, p + r = tm_mp d → wX_fixedHere_6 post (nI (tm_mp d)) among fh fa fe fk (nI d) fd kd ag st ln al mb im pr rl rc tb fr hel (r + 1) (nI (tm_sm (fun p => tm_ct (fun b => nb_b among b && tm_st d p (64 * part + b)) 64) p)) (nI p) := by
  have h6 := tm_mp6 d
  intro r
  induction r with
  | zero =>
    intro p h
    have z : p = tm_mp d := by omega
    rw [z]
    exact br_t (nI_le (Nat.le_refl _) (by omega)) K
  | succ r ih =>
    intro p h
    refine br_f (nI_ge (by omega) (by omega)) (xw_su h1 h3 (by omega) IM L (fun x hx => nm_e (xw_ones (nm_r (e' := nI (tm_sm (fun p => tm_ct (fun b => nb_b among b && tm_st d p (64 * part + b)) 64) (p + 1))) ?_ (nm_r (nI_1 p) (ih (p + 1) (by omega)))))))
    have e : tm_ct (nb_b (among &&& x)) 64 = tm_ct (fun b => nb_b among b && tm_st d p (64 * part + b)) 64 := tm_ct_congr (fun b hb => by rw [nb_and, hx b hb])
    rw [nI_add, e]; rfl
theorem xw_fx {post : Int32 → Prop} {d part : Nat} {among : Int64} (h1 : 1 ≤ d) (h3 : d ≤ 3) (IM : xw_IM im) (L : xw_LP d part pr rl rc)
    (K : post (nI (tm_sm (fun p => tm_ct (fun b => nb_b among b && tm_st d p (64 * part + b)) 64) (tm_mp d)))) : wpX_fixedHere post (fh, fa, fe, fk, nI d, fd, kd, ag, st, ln, al, mb, im, pr, rl, rc, tb, fr, hel) (nI (tm_mp d)) among :=
  ⟨_, xw_fx_6 h1 h3 IM L K (tm_mp d) 0 (by omega)⟩
theorem xw_sh_16 {post : Int32 → SX → Prop} {d na : Nat} {T : Nat → tm_F} (h1 : 1 ≤ d) (h3 : d ≤ 3) (IM : xw_IM im) (M : xw_MB d na T mb)
    (K : ∀ fs fd pr rl rc tb fr, post (nI (tm_ct (fun m => tm_lt d m && tm_ft d na T (-1) m) (tm_NN d))) (fh, fa, nI d, fk, fs, fd, kd, ag, st, ln, al, mb, im, pr, rl, rc, tb, fr, hel)) :
    ∀ (r q : Nat) (fs fd : Int32) (pr rl rc tb fr : Nat → Int64), q + r = tm_pt d → wX_shapes_16 post (nI (tm_mp d)) (r + 1) (nI (tm_sm (fun q => tm_sm (fun p => tm_ct (fun b => tm_mo d na T (64 * q + b) && tm_st d p (64 * q + b)) 64) (tm_mp d)) q)) (nI q) fh fa (nI d) fk fs fd kd ag st ln al mb im pr rl rc tb fr hel := by
  have hpt := tm_pt_le d
  have h6 := tm_mp6 d
  have hm1 := tm_mp1 d
  have h4 := tm_NN_le h3
  intro r
  induction r with
  | zero =>
    intro q fs fd pr rl rc tb fr h
    have e : q = tm_pt d := by omega
    have hc := tm_ct_le (fun m => tm_lt d m && tm_ft d na T (-1) m) (tm_NN d)
    rw [e, wX_shapes_16]
    refine xw_parts h3 ?_
    have hne : ¬ nI (tm_mp d) = 0 := nI_ne0 (by omega) (by omega)
    refine br_t (nI_le (Nat.le_refl _) (by omega)) (br_f hne ⟨hne, ?_⟩)
    have hb : tm_mp d * tm_ct (fun m => tm_lt d m && tm_ft d na T (-1) m) (tm_NN d) ≤ 6 * 4096 := Nat.mul_le_mul h6 (by omega)
    rw [tm_shp h1 h3, pk_div (by omega) (by omega) (by omega), Nat.mul_div_cancel_left _ (by omega)]
    exact K fs fd pr rl rc tb fr
  | succ r ih =>
    intro q fs fd pr rl rc tb fr h
    have hq : vp_in (nI q) 64 := vp_in_nI (by omega) (by decide)
    have es : tm_sm (fun q => tm_sm (fun p => tm_ct (fun b => tm_mo d na T (64 * q + b) && tm_st d p (64 * q + b)) 64) (tm_mp d)) (q + 1) = tm_sm (fun q => tm_sm (fun p => tm_ct (fun b => tm_mo d na T (64 * q + b) && tm_st d p (64 * q + b)) 64) (tm_mp d)) q + tm_sm (fun p => tm_ct (fun b => tm_mo d na T (64 * q + b) && tm_st d p (64 * q + b)) 64) (tm_mp d) := rfl
    have em : tm_sm (fun p => tm_ct (fun b => nb_b (mb q) b && tm_st d p (64 * q + b)) 64) (tm_mp d) = tm_sm (fun p => tm_ct (fun b => tm_mo d na T (64 * q + b) && tm_st d p (64 * q + b)) 64) (tm_mp d) := tm_sm_congr (fun p _ => tm_ct_congr (fun b hb => by rw [M q (by omega) b hb]))
    rw [wX_shapes_16]
    refine xw_parts h3 ?_
    refine br_f (nI_ge (by omega) (by omega)) ?_
    dsimp only
    rw [nI_clamp (show q < 2 ^ 31 by omega)]
    refine ⟨hq, br_c (fun z => nm_r (nI_1 q) ?_) (fun z => xw_lay h3 (by omega) (fun pr rl rc L => ⟨hq, xw_fx h1 h3 IM L (nm_r (e' := nI (tm_sm (fun q => tm_sm (fun p => tm_ct (fun b => tm_mo d na T (64 * q + b) && tm_st d p (64 * q + b)) 64) (tm_mp d)) (q + 1))) ?_ (nm_r (nI_1 q) (ih (q + 1) _ _ _ _ _ _ _ (by omega))))⟩))⟩
    · have t := ih (q + 1) fs fd pr rl rc tb fr (by omega)
      have e0 : tm_sm (fun p => tm_ct (fun b => tm_mo d na T (64 * q + b) && tm_st d p (64 * q + b)) 64) (tm_mp d) = 0 := by
        rw [← tm_sm_0 (tm_mp d)]
        refine tm_sm_congr (fun p _ => ?_)
        rw [tm_ct_congr (n := 64) (g := fun _ => false) (fun b hb => by rw [← M q (by omega) b hb, z, nb_0, Bool.false_and])]
        exact tm_ct_cut (fun _ => false) (Nat.zero_le 64) (fun _ _ _ => rfl)
      rw [es, e0, Nat.add_zero] at t
      exact t
    · rw [es, nI_add, em]
theorem xw_shapes {post : Int32 → SX → Prop} {d na : Nat} {T : Nat → tm_F} (h1 : 1 ≤ d) (h3 : d ≤ 3) (hna : na ≤ 6) (IM : xw_IM im) (AX : xw_AX na T kd ag al) (KN : xw_KN d na T fk mb)
    (K : ∀ fk mb fs fd pr rl rc tb fr, xw_KN d na T fk mb → post (nI (tm_ct (fun m => tm_lt d m && tm_ft d na T (-1) m) (tm_NN d))) (fh, nI na, nI d, fk, fs, fd, kd, ag, st, ln, al, mb, im, pr, rl, rc, tb, fr, hel)) : wpX_shapes post (fh, nI na, nI d, fk, fs, fd, kd, ag, st, ln, al, mb, im, pr, rl, rc, tb, fr, hel) := by
  unfold wpX_shapes
  dsimp only
  exact xw_find h1 h3 hna AX KN (fun fk mb fs fd pr rl rc tb fr hk M => xw_maps h3 ⟨tm_pt d + 1, xw_sh_16 h1 h3 IM M (fun fs fd pr rl rc tb fr => K fk mb fs fd pr rl rc tb fr (fun _ => M)) (tm_pt d) 0 fs fd pr rl rc tb fr (by omega)⟩)
/-! the constructor's table of maps -/
theorem xi_r2 {p : Nat} (h : p < 2 ^ 31) : nI p - nI p / 2 * 2 = nI (p % 2) := pk_rem (d := 2) h (by decide) (by decide)
theorem xi_30 (p : Nat) : (3 : Int32) * nI p = nI (3 * p) := pk_mul 3 p
theorem xi_31 (p : Nat) : nI (3 * p) + 1 = nI (3 * p + 1) := nI_1 _
theorem xi_32 (p : Nat) : nI (3 * p) + 2 = nI (3 * p + 2) := nI_add _ 2
def xw_u3 (im : Nat → Int32) (p : Nat) : Nat → Int32 := upd (upd (upd im (3 * p) (nI (tm_sg p 0))) (3 * p + 1) (nI (tm_sg p 1))) (3 * p + 2) (nI (tm_sg p 2))
theorem xw_lm_34 {post : SX → Prop} {p a b c : Nat} (hp : p < 6) (h0 : tm_sg p 0 = if p % 2 = 0 then a else b) (h1 : tm_sg p 1 = if p % 2 = 0 then b else a) (h2 : tm_sg p 2 = c) (K : post (fh, fa, fe, fk, fs, fd, kd, ag, st, ln, al, mb, xw_u3 im p, pr, rl, rc, tb, fr, hel)) : wX_layMap_34 post (nI p) (nI a) (nI b) (nI c) fh fa fe fk fs fd kd ag st ln al mb im pr rl rc tb fr hel := by
  unfold wX_layMap_34 wX_layMap_52 wX_layMap_73
  rw [xi_r2 (by omega), xi_30, xi_31, xi_32, nI_clamp (show 3 * p < 2 ^ 31 by omega), nI_clamp (show 3 * p + 1 < 2 ^ 31 by omega), nI_clamp (show 3 * p + 2 < 2 ^ 31 by omega)]
  unfold xw_u3 at K
  rw [h0, h1, h2] at K
  have i0 : vp_in (nI (3 * p)) 18 := vp_in_nI (by omega) (by decide)
  have i1 : vp_in (nI (3 * p + 1)) 18 := vp_in_nI (by omega) (by decide)
  have i2 : vp_in (nI (3 * p + 2)) 18 := vp_in_nI (by omega) (by decide)
  refine ⟨xi_n2, pk_eq (p % 2) 0 (fun z => ⟨i0, nm_e ⟨xi_n2, pk_eq (p % 2) 0 (fun z => ⟨i1, nm_e ⟨i2, nm_e ?_⟩⟩) (fun y => absurd z y)⟩⟩) (fun z => ⟨i0, nm_e ⟨xi_n2, pk_eq (p % 2) 0 (fun y => absurd y z) (fun y => ⟨i1, nm_e ⟨i2, nm_e ?_⟩⟩)⟩⟩)⟩
  · rw [if_pos z, if_pos z] at K; exact K
  · rw [if_neg z, if_neg z] at K; exact K
theorem tm_t1 : ∀ p, p < 2 → tm_sg p 0 = (if p % 2 = 0 then 0 else 1) ∧ tm_sg p 1 = (if p % 2 = 0 then 1 else 0) ∧ tm_sg p 2 = 2 := by decide +kernel
theorem tm_t2 : ∀ p, p < 4 → 2 ≤ p → tm_sg p 0 = (if p % 2 = 0 then 0 else 2) ∧ tm_sg p 1 = (if p % 2 = 0 then 2 else 0) ∧ tm_sg p 2 = 1 := by decide +kernel
theorem tm_t3 : ∀ p, p < 6 → 4 ≤ p → tm_sg p 0 = (if p % 2 = 0 then 1 else 2) ∧ tm_sg p 1 = (if p % 2 = 0 then 2 else 1) ∧ tm_sg p 2 = 0 := by decide +kernel
theorem xw_lm {post : SX → Prop} {p : Nat} (hp : p < 6) (K : post (fh, fa, fe, fk, fs, fd, kd, ag, st, ln, al, mb, xw_u3 im p, pr, rl, rc, tb, fr, hel)) : wpX_layMap post (fh, fa, fe, fk, fs, fd, kd, ag, st, ln, al, mb, im, pr, rl, rc, tb, fr, hel) (nI p) := by
  refine pk_lt p 4 (fun h4 => pk_lt p 2 (fun h2 => ?_) (fun h2 => ?_)) (fun h4 => ?_)
  · have t := tm_t1 p h2
    exact xw_lm_34 (a := 0) (b := 1) (c := 2) hp t.1 t.2.1 t.2.2 K
  · have t := tm_t2 p h4 h2
    exact xw_lm_34 (a := 0) (b := 2) (c := 1) hp t.1 t.2.1 t.2.2 K
  · have t := tm_t3 p hp h4
    exact xw_lm_34 (a := 1) (b := 2) (c := 0) hp t.1 t.2.1 t.2.2 K
theorem xw_in_117 {post : SX → Prop} (K : ∀ im, xw_IM im → post (fh, fa, fe, fk, fs, fd, kd, ag, st, ln, al, mb, im, pr, rl, rc, tb, fr, hel)) : ∀ (r p : Nat) (im : Nat → Int32), p + r = 6 → (∀ q e, q < p → e < 3 → im (3 * q + e) = nI (tm_sg q e)) → wX_init_117 post (r + 1) (nI p) fh fa fe fk fs fd kd ag st ln al mb im pr rl rc tb fr hel := by
  intro r
  induction r with
  | zero =>
    intro p im h w
    have z : p = 6 := by omega
    subst z
    exact br_t (nI_le (a := 6) (b := 6) (Nat.le_refl _) (by decide)) (K im w)
  | succ r ih =>
    intro p im h w
    refine br_f (nI_ge (b := 6) (by omega) (by decide)) (xw_lm (by omega) (nm_r (nI_1 p) (ih (p + 1) _ (by omega) (fun q e hq he => ?_))))
    unfold xw_u3
    by_cases z : q = p
    · subst z
      have : e = 0 ∨ e = 1 ∨ e = 2 := by omega
      rcases this with rfl | rfl | rfl
      · rw [pk_un (by omega), pk_un (by omega)]; exact pk_us
      · rw [pk_un (by omega), pk_us]
      · rw [pk_us]
    · rw [pk_un (by omega), pk_un (by omega), pk_un (by omega)]
      exact w q e (by omega) he
end
theorem xw_init {post : SX → Prop} (K : ∀ im, xw_IM im → post (0, 0, 2, 0, 0, 0, (fun _ => 0), (fun _ => 0), (fun _ => 0), (fun _ => 0), (fun _ => 0), (fun _ => 0), im, (fun _ => 0), (fun _ => 0), (fun _ => 0), (fun _ => 0), (fun _ => 0), (fun _ => 0))) : wpX_init post :=
  ⟨7, xw_in_117 K 6 0 (fun _ => 0) rfl (fun q e hq => absurd hq (Nat.not_lt_zero q))⟩
end
section
/-! images of interpretations, shapes: the reference -/
def tm_pi (d p : Nat) : Nat := if d = 3 then ([0, 2, 1, 4, 3, 5] : List Nat).getD p 0 else p
theorem tm_h1 : ∀ d, d < 4 → ∀ p, p < tm_mp d → tm_pi d p < tm_mp d ∧ tm_pi d (tm_pi d p) = p := by decide +kernel
theorem tm_pi_ct (d : Nat) (h : d ≤ 3) (g : Nat → Bool) : tm_ct (fun p => g (tm_pi d p)) (tm_mp d) = tm_ct g (tm_mp d) :=
  tm_ct_pm g (tm_pi d) (tm_pi d) (fun p hp => tm_h1 d (by omega) p hp) (fun p hp => tm_h1 d (by omega) p hp)
theorem tm_pi_al (d : Nat) (h : d ≤ 3) (g : Nat → Bool) : tm_al (fun p => g (tm_pi d p)) (tm_mp d) = tm_al g (tm_mp d) := by
  cases c : tm_al g (tm_mp d)
  · cases c2 : tm_al (fun p => g (tm_pi d p)) (tm_mp d)
    · rfl
    · have : tm_al g (tm_mp d) = true := by
        rw [tm_al_iff] at c2 ⊢
        intro p hp
        have a := tm_h1 d (by omega) p hp
        have b := c2 _ a.1
        rw [a.2] at b
        exact b
      rw [c] at this
      exact nomatch this
  · rw [tm_al_iff] at c ⊢
    intro p hp
    exact c _ (tm_h1 d (by omega) p hp).1
section
variable {vd vh va : Int32} {sz ky ay ps : Nat → Int32}
theorem yw_maps {post : Int32 → Prop} {d : Nat} (h3 : d ≤ 3) (K : post (nI (tm_mp d))) : wpY_maps post (nI d, vh, va, sz, ky, ay, ps) := xw_maps h3 K
theorem yw_mv_a : ∀ d, d < 3 → ∀ e, e < d → tm_sg (tm_pi d 0) e = e := by decide +kernel
theorem yw_mv_b : ∀ e, e < 2 → tm_sg (tm_pi 2 1) e = 1 - e := by decide +kernel
theorem yw_mv_12 (d : Nat) (hd : d < 3) (h1 : 1 ≤ d) (p : Nat) (hp : p < tm_mp d) (e : Nat) (he : e < d) : (p = 0 → tm_sg (tm_pi d p) e = e) ∧ (¬ p = 0 → e ≤ 1 ∧ tm_sg (tm_pi d p) e = 1 - e) := by
  refine ⟨fun z => ?_, fun z => ?_⟩
  · subst z; exact yw_mv_a d hd e he
  · have : d = 1 ∨ d = 2 := by omega
    rcases this with rfl | rfl
    · have e1 : tm_mp 1 = 1 := rfl
      omega
    · have e1 : tm_mp 2 = 2 := rfl
      have : p = 1 := by omega
      subst this
      exact ⟨by omega, yw_mv_b e he⟩
theorem yw_moved {post : Int32 → Prop} {d p e : Nat} (h1 : 1 ≤ d) (h3 : d ≤ 3) (hp : p < tm_mp d) (he : e < d) (K : post (nI (tm_sg (tm_pi d p) e))) : wpY_moved post (nI d, vh, va, sz, ky, ay, ps) (nI p) (nI e) := by
  have h6 := tm_mp6 d
  rcases Nat.lt_or_ge d 3 with hd | hd
  · have t := yw_mv_12 d hd h1 p hp e he
    refine br_f (nI_ge (b := 3) hd (by decide)) (pk_eq p 0 (fun z => ?_) (fun z => ?_))
    · rw [t.1 z] at K; exact K
    · have s : (1 : Int32) - nI e = nI (1 - e) := pk_sub (a := 1) (t.2 z).1
      rw [s]
      rw [(t.2 z).2] at K; exact K
  · have hd3 : d = 3 := by omega
    subst hd3
    have hp6 : p < 6 := hp
    have cp : p = 0 ∨ p = 1 ∨ p = 2 ∨ p = 3 ∨ p = 4 ∨ p = 5 := by omega
    have ce : e = 0 ∨ e = 1 ∨ e = 2 := by omega
    unfold wpY_moved wY_moved_33 wY_moved_45 wY_moved_63 wY_moved_74
    rcases cp with rfl | rfl | rfl | rfl | rfl | rfl <;> rcases ce with rfl | rfl | rfl <;>
      (refine br_t (by decide) ⟨xi_n2, nm_e ?_⟩
       repeat (first | exact K | refine br_t (by decide) ?_ | refine br_f (by decide) ?_ | refine ⟨xi_n2, ?_⟩))
theorem yw_im_47 {post : Int32 → Prop} {J : Int32 → Int32 → Prop} {d p m e : Nat} (h1 : 1 ≤ d) (h3 : d ≤ 3) (hp : p < tm_mp d) (he : e < d)
    (K : ∀ x, tm_IV d (tm_sg (tm_pi d p)) m (e + 1) e d x → J x (nI (e + 1))) :
    ∀ (r f : Nat) (x : Int32), f + r = d → tm_IV d (tm_sg (tm_pi d p)) m (e + 1) e f x → wY_image_47 post J (nI p) (nI m) (nI e) (nI (tm_sg (tm_pi d p) e)) (nI d) vh va sz ky ay ps (r + 1) x (nI f) := by
  have F := (tm_f1 d (by omega) _ (tm_h1 d (by omega) p hp).1).2
  intro r
  induction r with
  | zero =>
    intro f x h w
    have z : f = d := by omega
    subst z
    exact br_t (nI_le (Nat.le_refl _) (by omega)) (nm_r (nI_1 e) (K x w))
  | succ r ih =>
    intro f x h w
    have hf : f < d := by omega
    have q2 := xi_dd12 h3 (F e he).1 (F f hf).1
    refine br_f (nI_ge (by omega) (by omega)) (yw_moved h1 h3 hp hf (yw_rel h3 he hf ?_))
    rw [xi_dde]
    cases c : tm_rl d m e f
    · refine br_t rfl (nm_r (nI_1 f) (ih (f + 1) x (by omega) (tm_IV_p he hf w (fun i hi => ?_))))
      unfold tm_rl at c
      rw [c, Bool.and_false, Bool.or_false]
    · refine br_f (by decide) (nm_e (nm_r (nI_1 f) (ih (f + 1) _ (by omega) (tm_IV_p he hf w (fun i hi => ?_)))))
      unfold tm_rl at c
      rw [c, Bool.and_true, b_or, nb_s1 (by omega) hi]
theorem yw_im_5 {post : Int32 → Prop} {d p m : Nat} (h1 : 1 ≤ d) (h3 : d ≤ 3) (hp : p < tm_mp d) (K : post (nI (tm_ig d (tm_pi d p) m))) :
    ∀ (r e : Nat) (x : Int32), e + r = d → tm_IV d (tm_sg (tm_pi d p)) m e e 0 x → wY_image_5 post (nI p) (nI m) (nI d) vh va sz ky ay ps (r + 1) x (nI e) := by
  have hq := (tm_h1 d (by omega) p hp).1
  have F := (tm_f1 d (by omega) _ hq).2
  intro r
  induction r with
  | zero =>
    intro e x h w
    have z : e = d := by omega
    subst z
    rw [tm_IV_e h1 h3 hq (fun _ _ => rfl) w]
    exact br_t (nI_le (Nat.le_refl _) (by omega)) K
  | succ r ih =>
    intro e x h w
    have he : e < d := by omega
    have q := (F e he).1
    refine br_f (nI_ge (by omega) (by omega)) (yw_moved h1 h3 hp he ?_)
    rw [nb_m m (by omega)]
    refine br_c (fun c => nm_e ⟨d + 1, yw_im_47 h1 h3 hp he (fun x' w' => ih (e + 1) x' (by omega) (tm_IV_n w')) d 0 _ (by omega) (tm_IV_u he w (fun i hi => ?_))⟩) (fun c => ⟨d + 1, yw_im_47 h1 h3 hp he (fun x' w' => ih (e + 1) x' (by omega) (tm_IV_n w')) d 0 _ (by omega) (tm_IV_u he w (fun i hi => ?_))⟩)
    · rw [nb_o1.mp c, Bool.and_true, b_or, nb_s1 (by omega) hi]
    · rw [ts_nt (fun z => c (nb_o1.mpr z)), Bool.and_false, Bool.or_false]
theorem yw_img {post : Int32 → Prop} {d p m : Nat} (h1 : 1 ≤ d) (h3 : d ≤ 3) (hp : p < tm_mp d) (K : post (nI (tm_ig d (tm_pi d p) m))) : wpY_image post (nI d, vh, va, sz, ky, ay, ps) (nI p) (nI m) :=
  ⟨d + 1, yw_im_5 h1 h3 hp K d 0 0 (by omega) (tm_IV_0 _ _ _)⟩
theorem yw_il_4 {post : Int32 → Prop} {d m : Nat} (h1 : 1 ≤ d) (h3 : d ≤ 3) (hm : m < tm_NN d) (K : post (nI (tm_lt d m).toNat)) :
    ∀ r p : Nat, p + r = tm_mp d → wY_isLeast_4 post (nI m) (nI d) vh va sz ky ay ps (r + 1) (nI (tm_al (fun p => decide (m ≤ tm_ig d (tm_pi d p) m)) p).toNat) (nI p) := by
  have h6 := tm_mp6 d
  have hN := tm_NN_b h3
  intro r
  induction r with
  | zero =>
    intro p h
    have z : p = tm_mp d := by omega
    rw [z, wY_isLeast_4]
    refine yw_maps h3 ?_
    rw [tm_pi_al d h3 (fun q => decide (m ≤ tm_ig d q m))]
    exact br_t (nI_le (Nat.le_refl _) (by omega)) ⟨nb_narrow _, K⟩
  | succ r ih =>
    intro p h
    have t := ih (p + 1) (by omega)
    have es : tm_al (fun p => decide (m ≤ tm_ig d (tm_pi d p) m)) (p + 1) = (tm_al (fun p => decide (m ≤ tm_ig d (tm_pi d p) m)) p && decide (m ≤ tm_ig d (tm_pi d p) m)) := rfl
    rw [es] at t
    rw [wY_isLeast_4]
    refine yw_maps h3 ?_
    revert t
    cases tm_al (fun p => decide (m ≤ tm_ig d (tm_pi d p) m)) p
    · intro t
      exact br_f (nI_ge (by omega) (by omega)) (br_t rfl (nm_r (nI_1 p) t))
    · intro t
      refine br_f (nI_ge (by omega) (by omega)) (br_f (by decide) (yw_img h1 h3 (by omega) ?_))
      refine pk_lt _ m (fun z => nm_r (nI_1 p) ?_) (fun z => nm_r (nI_1 p) ?_) rfl rfl (tm_ig_31 h3) (by omega)
      · rw [decide_eq_false (by omega)] at t
        exact t
      · rw [decide_eq_true z] at t
        exact t
theorem yw_il {post : Int32 → Prop} {d m : Nat} (h1 : 1 ≤ d) (h3 : d ≤ 3) (hm : m < tm_NN d) (K : post (nI (tm_lt d m).toNat)) : wpY_isLeast post (nI d, vh, va, sz, ky, ay, ps) (nI m) :=
  ⟨_, yw_il_4 h1 h3 hm K (tm_mp d) 0 (by omega)⟩
theorem yw_sh_4 {post : Int32 → SY → Prop} {d na : Nat} {T : Nat → tm_F} (h1 : 1 ≤ d) (h3 : d ≤ 3) (hna : na ≤ 6) (AX : yw_AX na T sz ky ay)
    (K : ∀ ps, post (nI (tm_ct (fun m => tm_lt d m && tm_ft d na T (-1) m) (tm_NN d))) (nI d, vh, nI na, sz, ky, ay, ps)) :
    ∀ (r i : Nat) (ps : Nat → Int32), i + r = tm_NN d → wY_shapes_4 post (r + 1) (nI (tm_ct (fun m => tm_lt d m && tm_ft d na T (-1) m) i)) (nI i) (nI d) vh (nI na) sz ky ay ps := by
  have hN := tm_NN_b h3
  intro r
  induction r with
  | zero =>
    intro i ps h
    have e : i = tm_NN d := by omega
    rw [e, wY_shapes_4]
    refine yw_int h1 h3 ?_
    exact br_t (nI_le (Nat.le_refl _) hN) (K ps)
  | succ r ih =>
    intro i ps h
    have es : tm_ct (fun m => tm_lt d m && tm_ft d na T (-1) m) (i + 1) = tm_ct (fun m => tm_lt d m && tm_ft d na T (-1) m) i + (tm_lt d i && tm_ft d na T (-1) i).toNat := rfl
    rw [wY_shapes_4]
    refine yw_int h1 h3 ?_
    refine br_f (nI_ge (by omega) hN) (yw_il h1 h3 (by omega) ?_)
    dsimp only
    cases c : tm_lt d i
    · have t := ih (i + 1) ps (by omega)
      rw [es, c] at t
      exact br_t rfl (nm_r (nI_1 i) t)
    · refine br_f (by decide) (yw_ft h1 h3 hna AX (fun ps' => ?_))
      have t := ih (i + 1) ps' (by omega)
      dsimp only
      cases c2 : tm_ft d na T (-1) i
      · rw [es, c, c2] at t
        exact br_t rfl (nm_r (nI_1 i) t)
      · rw [es, c, c2] at t
        exact br_f (by decide) (nm_r (nI_1 _) (nm_r (nI_1 i) t))
theorem yw_shapes {post : Int32 → SY → Prop} {d na : Nat} {T : Nat → tm_F} (h1 : 1 ≤ d) (h3 : d ≤ 3) (hna : na ≤ 6) (AX : yw_AX na T sz ky ay)
    (K : ∀ ps, post (nI (tm_ct (fun m => tm_lt d m && tm_ft d na T (-1) m) (tm_NN d))) (nI d, vh, nI na, sz, ky, ay, ps)) : wpY_shapes post (nI d, vh, nI na, sz, ky, ay, ps) :=
  ⟨_, yw_sh_4 h1 h3 hna AX K (tm_NN d) 0 ps (by omega)⟩
theorem yw_mt_5 {post : Int32 → Prop} {d m o : Nat} (h1 : 1 ≤ d) (h3 : d ≤ 3) (ho : o < tm_NN d) (K : post (nI (tm_ct (fun p => decide (tm_ig d p m = o)) (tm_mp d)))) :
    ∀ r p : Nat, p + r = tm_mp d → wY_mapsTo_5 post (nI m) (nI o) (nI d) vh va sz ky ay ps (r + 1) (nI (tm_ct (fun p => decide (tm_ig d (tm_pi d p) m = o)) p)) (nI p) := by
  have h6 := tm_mp6 d
  have hN := tm_NN_b h3
  intro r
  induction r with
  | zero =>
    intro p h
    have z : p = tm_mp d := by omega
    rw [z, wY_mapsTo_5]
    refine yw_maps h3 ?_
    rw [tm_pi_ct d h3 (fun q => decide (tm_ig d q m = o))]
    exact br_t (nI_le (Nat.le_refl _) (by omega)) K
  | succ r ih =>
    intro p h
    have t := ih (p + 1) (by omega)
    have es : tm_ct (fun p => decide (tm_ig d (tm_pi d p) m = o)) (p + 1) = tm_ct (fun p => decide (tm_ig d (tm_pi d p) m = o)) p + (decide (tm_ig d (tm_pi d p) m = o)).toNat := rfl
    rw [es] at t
    rw [wY_mapsTo_5]
    refine yw_maps h3 ?_
    refine br_f (nI_ge (by omega) (by omega)) (yw_img h1 h3 (by omega) ?_)
    refine pk_eq _ o (fun z => ?_) (fun z => ?_) rfl rfl (tm_ig_31 h3) (by omega)
    · rw [decide_eq_true z] at t
      exact nm_r (nI_1 _) (nm_r (nI_1 p) t)
    · rw [decide_eq_false z] at t
      exact nm_r (nI_1 p) t
theorem yw_mt {post : Int32 → Prop} {d m o : Nat} (h1 : 1 ≤ d) (h3 : d ≤ 3) (ho : o < tm_NN d) (K : post (nI (tm_ct (fun p => decide (tm_ig d p m = o)) (tm_mp d)))) : wpY_mapsTo post (nI d, vh, va, sz, ky, ay, ps) (nI m) (nI o) :=
  ⟨_, yw_mt_5 h1 h3 ho K (tm_mp d) 0 (by omega)⟩
theorem tm_ct_an (g : Nat → Bool) (n : Nat) : tm_an g n = decide (0 < tm_ct g n) := by
  cases c : tm_an g n
  · rw [tm_ct_congr (fun i hi => tm_an_0.mp c i hi), tm_ct_cut (fun _ => false) (Nat.zero_le n) (fun _ _ _ => rfl)]; rfl
  · refine (decide_eq_true ?_).symm
    rcases Nat.eq_zero_or_pos (tm_ct g n) with z | z
    · obtain ⟨i, hi, e⟩ := (tm_an_iff g n).mp c
      rw [tm_ct_0 z i hi] at e
      exact nomatch e
    · exact z
theorem yw_sameShape_y {post : Int32 → Prop} {d m o : Nat} (h1 : 1 ≤ d) (h3 : d ≤ 3) (hm : m < tm_NN d) (ho : o < tm_NN d) (K : post (nI (tm_an (fun p => decide (tm_ig d p m = o)) (tm_mp d)).toNat)) : wpY_sameShape post (nI d, vh, va, sz, ky, ay, ps) (nI m) (nI o) := by
  have h6 := tm_mp6 d
  have hc := tm_ct_le (fun p => decide (tm_ig d p m = o)) (tm_mp d)
  unfold wpY_sameShape
  dsimp only
  refine yw_num_y h1 h3 hm (br_f (by decide) (yw_num_y h1 h3 ho (br_f (by decide) (yw_mt h1 h3 ho ?_))))
  rw [tm_ct_an] at K
  refine pk_le _ 0 (fun z => ?_) (fun z => ?_)
  · rw [decide_eq_false (by omega)] at K; exact K
  · rw [decide_eq_true z] at K; exact K
theorem yw_sameShape_n {post : Int32 → Prop} {d : Nat} {x y : Int32} (h1 : 1 ≤ d) (h3 : d ≤ 3) (h : (x < 0 ∨ nI (tm_NN d) ≤ x) ∨ (y < 0 ∨ nI (tm_NN d) ≤ y)) (K : post (-1)) : wpY_sameShape post (nI d, vh, va, sz, ky, ay, ps) x y := by
  unfold wpY_sameShape
  dsimp only
  rcases pk_ix x (tm_NN_b h3) with z | z | ⟨m, hm, rfl⟩
  · exact yw_num_n h1 h3 (Or.inl z) (br_t rfl K)
  · exact yw_num_n h1 h3 (Or.inr z) (br_t rfl K)
  · rcases h with h | h
    · exact yw_num_n h1 h3 h (br_t rfl K)
    · exact yw_num_y h1 h3 hm (br_f (by decide) (yw_num_n h1 h3 h (br_t rfl K)))
theorem yw_sym_y {post : Int32 → Prop} {d m : Nat} (h1 : 1 ≤ d) (h3 : d ≤ 3) (hm : m < tm_NN d) (K : post (nI (tm_ct (fun p => decide (tm_ig d p m = m)) (tm_mp d)))) : wpY_symmetries post (nI d, vh, va, sz, ky, ay, ps) (nI m) := by
  unfold wpY_symmetries
  dsimp only
  exact yw_num_y h1 h3 hm (br_f (by decide) (yw_mt h1 h3 hm K))
theorem yw_sym_n {post : Int32 → Prop} {d : Nat} {x : Int32} (h1 : 1 ≤ d) (h3 : d ≤ 3) (h : x < 0 ∨ nI (tm_NN d) ≤ x) (K : post (-1)) : wpY_symmetries post (nI d, vh, va, sz, ky, ay, ps) x := by
  unfold wpY_symmetries
  dsimp only
  exact yw_num_n h1 h3 h (br_t rfl K)
end
end
section
/-! tokens: the pure side -/
def tm_R (a : Int32) (B : Nat) : Prop := ∃ aa : Nat, a = nI aa ∧ aa ≤ B
theorem tm_tk_i {kk : Nat} {a : Int32} (h : kk ≤ 11) : tm_tk (nI kk) a ↔ (¬ (4 ≤ kk ∧ kk ≤ 8) → tm_R a (tm_bd kk)) := by
  constructor
  · intro ⟨k2, h1, h2, h3⟩
    have : kk = k2 := (nI_eq (by omega) (by omega)).mp h2
    subst this
    exact h3
  · intro g
    exact ⟨kk, h, rfl, g⟩
theorem tm_rg {post : Int32 → Prop} {a y : Int32} {B : Nat} (hB : B ≤ 8) (hy : y = nI B) (K1 : tm_R a B → post 1) (K0 : ¬ tm_R a B → post 0) : (a < 0 → post 0) ∧ (¬ a < 0 → ((y < a → post 0) ∧ (¬ y < a → post 1))) := by
  subst hy
  refine br_c (fun h => K0 (fun ⟨aa, e, g⟩ => ?_)) (fun h => ?_)
  · rw [e] at h
    exact nI_pos (by omega) h
  · obtain ⟨j, hj, rfl⟩ := nI_of h
    refine pk_lt B j (fun g => K0 (fun ⟨aa, e, q⟩ => ?_)) (fun g => K1 ⟨j, rfl, g⟩)
    have := (nI_eq hj (by omega)).mp e
    omega
theorem xw_fits {post : Int32 → Prop} {kk : Nat} {a : Int32} (h : kk ≤ 11) (K1 : tm_tk (nI kk) a → post 1) (K0 : ¬ tm_tk (nI kk) a → post 0) : wpX_fits post (nI kk) a := by
  rw [tm_tk_i h] at K1 K0
  unfold wpX_fits wX_fits_64 wX_fits_79
  have r2 : (¬ (4 ≤ kk ∧ kk ≤ 8)) → tm_bd kk = 2 → (a < 0 → post 0) ∧ (¬ a < 0 → ((2 < a → post 0) ∧ (¬ 2 < a → post 1))) := fun z e => tm_rg (B := 2) (by decide) rfl (fun q => K1 (fun _ => e ▸ q)) (fun q => K0 (fun y => q (e ▸ y z)))
  have r8 : (¬ (4 ≤ kk ∧ kk ≤ 8)) → tm_bd kk = 8 → (a < 0 → post 0) ∧ (¬ a < 0 → ((8 < a → post 0) ∧ (¬ 8 < a → post 1))) := fun z e => tm_rg (B := 8) (by decide) rfl (fun q => K1 (fun _ => e ▸ q)) (fun q => K0 (fun y => q (e ▸ y z)))
  have r5 : (¬ (4 ≤ kk ∧ kk ≤ 8)) → tm_bd kk = 5 → (a < 0 → post 0) ∧ (¬ a < 0 → ((5 < a → post 0) ∧ (¬ 5 < a → post 1))) := fun z e => tm_rg (B := 5) (by decide) rfl (fun q => K1 (fun _ => e ▸ q)) (fun q => K0 (fun y => q (e ▸ y z)))
  have k1 : 4 ≤ kk ∧ kk ≤ 8 → post 1 := fun z => K1 (fun y => absurd z y)
  refine br_f (nI_pos (by omega)) (br_f (nI_nlt (a := 11) h (by decide)) ?_)
  refine pk_eq kk 0 (fun z => r2 (by omega) (by subst z; rfl)) (fun z0 => pk_eq kk 1 (fun z => r8 (by omega) (by subst z; rfl)) (fun z1 => pk_eq kk 2 (fun z => r8 (by omega) (by subst z; rfl)) (fun z2 => pk_eq kk 3 (fun z => r8 (by omega) (by subst z; rfl)) (fun z3 => ?_))))
  refine pk_eq kk 4 (fun z => k1 (by omega)) (fun z4 => pk_eq kk 5 (fun z => k1 (by omega)) (fun z5 => pk_eq kk 6 (fun z => k1 (by omega)) (fun z6 => pk_eq kk 7 (fun z => k1 (by omega)) (fun z7 => pk_eq kk 8 (fun z => k1 (by omega)) (fun z8 => ?_)))))
  exact pk_eq kk 9 (fun z => r2 (by omega) (by subst z; rfl)) (fun z9 => pk_eq kk 10 (fun z => r2 (by omega) (by subst z; rfl)) (fun z10 => pk_eq kk 11 (fun z => r5 (by omega) (by subst z; rfl)) (fun z11 => trivial)))
def tm_e0 : tm_F := (0, fun _ => 0, fun _ => 0)
def tm_a2 (f g : tm_F) : tm_F := (f.1 + g.1, fun i => if i < f.1 then f.2.1 i else g.2.1 (i - f.1), fun i => if i < f.1 then f.2.2 i else g.2.2 (i - f.1))
def tm_sn (f : tm_F) (k a : Int32) : tm_F := (f.1 + 1, fun i => if i < f.1 then f.2.1 i else k, fun i => if i < f.1 then f.2.2 i else a)
def tm_bs (S : Nat → tm_F) (h n : Nat) : tm_F := if n = 0 then tm_e0 else if n = 1 then S (h - 1) else tm_a2 (S (h - 2)) (S (h - 1))
/-- a formula's part: n formulas behind one another -/
def tm_pw (f : tm_F) (n : Nat) : Prop := (∀ i, i < f.1 → tm_tk (f.2.1 i) (f.2.2 i) ∧ tm_tn (tm_k f i) ≤ tm_dp f i) ∧ tm_dp f f.1 = n
theorem tm_pw_a2 {f g : tm_F} (wf : tm_wf f) (wg : tm_wf g) : tm_pw (tm_a2 f g) 2 := by
  obtain ⟨_, f2, f3⟩ := wf
  obtain ⟨_, g2, g3⟩ := wg
  have e1 : ∀ i, i < f.1 → (tm_a2 f g).2.1 i = f.2.1 i := fun i hi => if_pos hi
  have e1a : ∀ i, i < f.1 → (tm_a2 f g).2.2 i = f.2.2 i := fun i hi => if_pos hi
  have e2 : ∀ j, (tm_a2 f g).2.1 (f.1 + j) = g.2.1 j := fun j => by
    show (if f.1 + j < f.1 then _ else g.2.1 (f.1 + j - f.1)) = _
    rw [if_neg (by omega), Nat.add_sub_cancel_left]
  have e2a : ∀ j, (tm_a2 f g).2.2 (f.1 + j) = g.2.2 j := fun j => by
    show (if f.1 + j < f.1 then _ else g.2.2 (f.1 + j - f.1)) = _
    rw [if_neg (by omega), Nat.add_sub_cancel_left]
  have d1 : ∀ i, i ≤ f.1 → tm_dp (tm_a2 f g) i = tm_dp f i := tm_dp_congr (n := f.1) e1
  have d2 : ∀ j, j ≤ g.1 → tm_dp (tm_a2 f g) (f.1 + j) = 1 + tm_dp g j := by
    intro j
    induction j with
    | zero => intro _; rw [Nat.add_zero, d1 _ (Nat.le_refl _), f3]; rfl
    | succ j ih =>
      intro hj
      have a := (g2 j (by omega)).2
      have b : tm_k (tm_a2 f g) (f.1 + j) = tm_k g j := by unfold tm_k; rw [e2]
      rw [show f.1 + (j + 1) = f.1 + j + 1 by omega, tm_dp_s, tm_dp_s, ih (by omega), b]
      omega
  refine ⟨fun i hi => ?_, ?_⟩
  · rcases Nat.lt_or_ge i f.1 with z | z
    · have a := f2 i z
      have b : tm_k (tm_a2 f g) i = tm_k f i := by unfold tm_k; rw [e1 i z]
      rw [e1 i z, e1a i z, b, d1 i (by omega)]
      exact a
    · obtain ⟨j, rfl⟩ : ∃ j, i = f.1 + j := ⟨i - f.1, by omega⟩
      have hj : j < g.1 := by
        have : f.1 + j < f.1 + g.1 := hi
        omega
      have a := g2 j hj
      have b : tm_k (tm_a2 f g) (f.1 + j) = tm_k g j := by unfold tm_k; rw [e2]
      rw [e2, e2a, b, d2 j (by omega)]
      exact ⟨a.1, by omega⟩
  · show tm_dp (tm_a2 f g) (f.1 + g.1) = 2
    rw [d2 g.1 (Nat.le_refl _), g3]
theorem tm_wf_sn {f : tm_F} {kk : Nat} {a : Int32} (h : tm_pw f (tm_tn kk)) (hk : kk ≤ 11) (tk : tm_tk (nI kk) a) (hl : f.1 + 1 ≤ 24) : tm_wf (tm_sn f (nI kk) a) := by
  obtain ⟨f2, f3⟩ := h
  have e1 : ∀ i, i < f.1 → (tm_sn f (nI kk) a).2.1 i = f.2.1 i := fun i hi => if_pos hi
  have e1a : ∀ i, i < f.1 → (tm_sn f (nI kk) a).2.2 i = f.2.2 i := fun i hi => if_pos hi
  have e2 : (tm_sn f (nI kk) a).2.1 f.1 = nI kk := if_neg (Nat.lt_irrefl _)
  have e2a : (tm_sn f (nI kk) a).2.2 f.1 = a := if_neg (Nat.lt_irrefl _)
  have d1 : ∀ i, i ≤ f.1 → tm_dp (tm_sn f (nI kk) a) i = tm_dp f i := tm_dp_congr (n := f.1) e1
  have ek : tm_k (tm_sn f (nI kk) a) f.1 = kk := tm_kE e2 hk
  refine ⟨hl, fun i hi => ?_, ?_⟩
  · rcases Nat.lt_or_ge i f.1 with z | z
    · have q := f2 i z
      have b : tm_k (tm_sn f (nI kk) a) i = tm_k f i := by unfold tm_k; rw [e1 i z]
      rw [e1 i z, e1a i z, b, d1 i (by omega)]
      exact q
    · have : i = f.1 := by
        have : i < f.1 + 1 := hi
        omega
      subst this
      rw [e2, e2a, ek, d1 _ (Nat.le_refl _), f3]
      exact ⟨tk, Nat.le_refl _⟩
  · show tm_dp (tm_sn f (nI kk) a) (f.1 + 1) = 1
    rw [tm_dp_s, ek, d1 _ (Nat.le_refl _), f3]
    omega
theorem tm_pw_bs {S : Nat → tm_F} {h n : Nat} (wS : ∀ s, s < h → tm_wf (S s)) (hn : n ≤ h) (h2 : n ≤ 2) : tm_pw (tm_bs S h n) n := by
  unfold tm_bs
  by_cases z : n = 0
  · rw [if_pos z, z]
    exact ⟨fun i hi => absurd hi (Nat.not_lt_zero i), rfl⟩
  · by_cases y : n = 1
    · rw [if_neg z, if_pos y, y]
      exact (wS (h - 1) (by omega)).2
    · have : n = 2 := by omega
      rw [if_neg z, if_neg y, this]
      exact tm_pw_a2 (wS (h - 2) (by omega)) (wS (h - 1) (by omega))
/-- the stack with a formula laid on a slot -/
def tm_ps (S : Nat → tm_F) (s : Nat) (f : tm_F) : Nat → tm_F := fun j => if j = s then f else S j
/-! the component -/
def xw_ST (h : Nat) (S : Nat → tm_F) (kd ag st ln : Nat → Int32) : Prop := ∃ o : Nat → Nat, o 0 = 0 ∧ (∀ s, s < h → o (s + 1) = o s + (S s).1) ∧ ∀ s, s < h → st s = nI (o s) ∧ ln s = nI (S s).1 ∧ ∀ i, i < (S s).1 → kd (o s + i) = (S s).2.1 i ∧ ag (o s + i) = (S s).2.2 i
theorem xw_o_le {h : Nat} {S : Nat → tm_F} {o : Nat → Nat} (h0 : o 0 = 0) (hs : ∀ s, s < h → o (s + 1) = o s + (S s).1) (w : ∀ s, s < h → tm_wf (S s)) : ∀ s, s ≤ h → o s ≤ 24 * s := by
  intro s
  induction s with
  | zero => intro _; omega
  | succ s ih =>
    intro hh
    have a := hs s (by omega)
    have b := (w s (by omega)).1
    have c := ih (by omega)
    omega
theorem xw_o_mono {h : Nat} {S : Nat → tm_F} {o : Nat → Nat} (hs : ∀ s, s < h → o (s + 1) = o s + (S s).1) : ∀ r s, s + r ≤ h → o s ≤ o (s + r) := by
  intro r
  induction r with
  | zero => intro s _; exact Nat.le_refl _
  | succ r ih =>
    intro s hh
    have a := hs (s + r) (by omega)
    have b := ih s (by omega)
    rw [show s + (r + 1) = s + r + 1 by omega]
    omega
theorem xw_ST_TP {h : Nat} {S : Nat → tm_F} {kd ag st ln : Nat → Int32} (hh : h ≤ 6) (w : ∀ s, s < h → tm_wf (S s)) (T : xw_ST h S kd ag st ln) {s : Nat} (hs : s < h) : xw_TP kd ag st ln s (S s) := by
  obtain ⟨o, h0, h1, h2⟩ := T
  obtain ⟨a1, a2, a3⟩ := h2 s hs
  have b := xw_o_le h0 h1 w s (by omega)
  have c := (w s hs).1
  exact ⟨o s, a1, a2, by omega, a3⟩
theorem xw_bs_len {h n : Nat} {S : Nat → tm_F} {o : Nat → Nat} (hs : ∀ s, s < h → o (s + 1) = o s + (S s).1) (hn : n ≤ h) (h2 : n ≤ 2) : o (h - n) + (tm_bs S h n).1 = o h := by
  unfold tm_bs
  by_cases z : n = 0
  · rw [if_pos z, z]; rfl
  · by_cases y : n = 1
    · have a := hs (h - 1) (by omega)
      rw [show h - 1 + 1 = h by omega] at a
      rw [if_neg z, if_pos y, y]
      exact a.symm
    · have e2 : n = 2 := by omega
      have a := hs (h - 1) (by omega)
      have b := hs (h - 2) (by omega)
      rw [show h - 1 + 1 = h by omega] at a
      rw [show h - 2 + 1 = h - 1 by omega] at b
      rw [if_neg z, if_neg y, e2]
      show o (h - 2) + ((S (h - 2)).1 + (S (h - 1)).1) = o h
      omega
theorem xw_bs_tok {h n : Nat} {S : Nat → tm_F} {o : Nat → Nat} {kd ag : Nat → Int32} (hs : ∀ s, s < h → o (s + 1) = o s + (S s).1) (hk : ∀ s, s < h → ∀ i, i < (S s).1 → kd (o s + i) = (S s).2.1 i ∧ ag (o s + i) = (S s).2.2 i) (hn : n ≤ h) (h2 : n ≤ 2) :
    ∀ i, i < (tm_bs S h n).1 → kd (o (h - n) + i) = (tm_bs S h n).2.1 i ∧ ag (o (h - n) + i) = (tm_bs S h n).2.2 i := by
  unfold tm_bs
  by_cases z : n = 0
  · rw [if_pos z]
    intro i hi
    exact absurd hi (Nat.not_lt_zero i)
  · by_cases y : n = 1
    · rw [if_neg z, if_pos y, y]
      exact hk (h - 1) (by omega)
    · have e2 : n = 2 := by omega
      have b := hs (h - 2) (by omega)
      rw [show h - 2 + 1 = h - 1 by omega] at b
      rw [if_neg z, if_neg y, e2]
      intro i hi
      have hi2 : i < (S (h - 2)).1 + (S (h - 1)).1 := hi
      show _ = (if i < (S (h - 2)).1 then _ else _) ∧ _ = (if i < (S (h - 2)).1 then _ else _)
      by_cases c : i < (S (h - 2)).1
      · rw [if_pos c, if_pos c]
        exact hk (h - 2) (by omega) i c
      · rw [if_neg c, if_neg c]
        have q := hk (h - 1) (by omega) (i - (S (h - 2)).1) (by omega)
        rw [b, show o (h - 2) + (S (h - 2)).1 + (i - (S (h - 2)).1) = o (h - 2) + i by omega] at q
        exact q
/-- the component's stack after a token -/
theorem xw_ST_tok {h n : Nat} {S : Nat → tm_F} {o : Nat → Nat} {kd ag st ln st' : Nat → Int32} {k a : Int32} (h0 : o 0 = 0) (hs : ∀ s, s < h → o (s + 1) = o s + (S s).1) (hk : ∀ s, s < h → st s = nI (o s) ∧ ln s = nI (S s).1 ∧ ∀ i, i < (S s).1 → kd (o s + i) = (S s).2.1 i ∧ ag (o s + i) = (S s).2.2 i) (hn : n ≤ h) (h2 : n ≤ 2)
    (e1 : st' (h - n) = nI (o (h - n))) (e2 : ∀ s, s < h - n → st' s = st s) :
    xw_ST (h - n + 1) (tm_ps S (h - n) (tm_sn (tm_bs S h n) k a)) (upd kd (o h) k) (upd ag (o h) a) st' (upd ln (h - n) (nI ((tm_bs S h n).1 + 1))) := by
  have bl := xw_bs_len hs hn h2
  have bt' := xw_bs_tok hs (fun s q => (hk s q).2.2) hn h2
  refine ⟨fun s => if s ≤ h - n then o s else o (h - n) + ((tm_bs S h n).1 + 1), ?_, fun s q => ?_, fun s q => ?_⟩
  · exact (if_pos (Nat.zero_le _)).trans h0
  · show (if s + 1 ≤ h - n then _ else _) = (if s ≤ h - n then _ else _) + (tm_ps S (h - n) _ s).1
    unfold tm_ps
    by_cases z : s = h - n
    · rw [if_neg (by omega), if_pos (by omega), if_pos z, z]; rfl
    · rw [if_pos (by omega), if_pos (by omega), if_neg z]
      exact hs s (by omega)
  · show _ = nI (if s ≤ h - n then _ else _) ∧ _
    rw [if_pos (show s ≤ h - n by omega)]
    unfold tm_ps
    by_cases z : s = h - n
    · rw [if_pos z, z]
      refine ⟨e1, pk_us, fun i hi => ?_⟩
      have hi2 : i < (tm_bs S h n).1 + 1 := hi
      rw [show (fun s => if s ≤ h - n then o s else o (h - n) + ((tm_bs S h n).1 + 1)) (h - n) = o (h - n) from if_pos (Nat.le_refl _)]
      show _ = (if i < (tm_bs S h n).1 then _ else _) ∧ _ = (if i < (tm_bs S h n).1 then _ else _)
      by_cases c : i < (tm_bs S h n).1
      · rw [if_pos c, if_pos c, pk_un (by omega), pk_un (by omega)]
        exact bt' i c
      · have e : o (h - n) + i = o h := by omega
        rw [if_neg c, if_neg c, e]
        exact ⟨pk_us, pk_us⟩
    · rw [if_neg z]
      obtain ⟨q1, q2, q3⟩ := hk s (by omega)
      refine ⟨by rw [e2 s (by omega)]; exact q1, by rw [pk_un z]; exact q2, fun i hi => ?_⟩
      rw [show (fun s => if s ≤ h - n then o s else o (h - n) + ((tm_bs S h n).1 + 1)) s = o s from if_pos (by omega)]
      have m := xw_o_mono hs (h - (s + 1)) (s + 1) (by omega)
      rw [show s + 1 + (h - (s + 1)) = h by omega, hs s (by omega)] at m
      rw [pk_un (by omega), pk_un (by omega)]
      exact q3 i hi
section
variable {fh fa fe fk fs fd : Int32} {kd ag st ln al : Nat → Int32} {mb : Nat → Int64} {im : Nat → Int32} {pr rl rc tb fr hel : Nat → Int64}
theorem xw_tk_63 {post : Int32 → SX → Prop} {h n na : Nat} {k a : Int32} {S T : Nat → tm_F} (hh : h ≤ 6) (hn : n ≤ h) (h2 : n ≤ 2) (h06 : n = 0 → h < 6) (wS : ∀ s, s < h → tm_wf (S s)) (ST : xw_ST h S kd ag st ln) (AX : xw_AX na T kd ag al) (hna : na ≤ 6)
    (K4 : 24 < (tm_bs S h n).1 + 1 → post (-4) (nI h, fa, fe, fk, fs, fd, kd, ag, st, ln, al, mb, im, pr, rl, rc, tb, fr, hel)) (K5 : (tm_bs S h n).1 + 1 ≤ 24 → ∀ kd ag st ln, xw_ST (h - n + 1) (tm_ps S (h - n) (tm_sn (tm_bs S h n) k a)) kd ag st ln → xw_AX na T kd ag al → post (nI (h - n + 1)) (nI (h - n + 1), fa, fe, fk, fs, fd, kd, ag, st, ln, al, mb, im, pr, rl, rc, tb, fr, hel)) :
    ∃ q, wX_token_63 post k a (nI n) (nI h) fa fe fk fs fd kd ag st ln al mb im pr rl rc tb fr hel q 1 (nI (h - n)) := by
  obtain ⟨o, o0, os, ok⟩ := ST
  have bl := xw_bs_len os hn h2
  have ole := xw_o_le o0 os wS
  -- behind the loop
  have fin : ∀ q x5, x5 = nI h → wX_token_63 post k a (nI n) (nI h) fa fe fk fs fd kd ag st ln al mb im pr rl rc tb fr hel (q + 1) (nI ((tm_bs S h n).1 + 1)) x5 := by
    intro q x5 e5
    subst e5
    have l1 : (tm_bs S h n).1 ≤ 48 := by
      have := ole h (Nat.le_refl _)
      have := ole (h - n) (by omega)
      unfold tm_bs
      by_cases z : n = 0
      · rw [if_pos z]; exact Nat.zero_le _
      · by_cases y : n = 1
        · rw [if_neg z, if_pos y]
          have := (wS (h - 1) (by omega)).1
          omega
        · rw [if_neg z, if_neg y]
          have := (wS (h - 1) (by omega)).1
          have := (wS (h - 2) (by omega)).1
          show (S (h - 2)).1 + (S (h - 1)).1 ≤ 48
          omega
    have p134 : (tm_bs S h n).1 + 1 ≤ 24 → wX_token_134 post k a (nI n) (nI ((tm_bs S h n).1 + 1)) (nI (o h)) (nI h) fa fe fk fs fd kd ag st ln al mb im pr rl rc tb fr hel := by
      intro hl
      have hat : h - n ≤ 5 := by omega
      have ho : o (h - n) ≤ 24 * (h - n) := ole (h - n) (by omega)
      have hin : vp_in (nI (o h)) 288 := vp_in_nI (by omega) (by decide)
      have hin6 : vp_in (nI (h - n)) 6 := vp_in_nI (by omega) (by decide)
      have ax' : xw_AX na T (upd kd (o h) k) (upd ag (o h) a) al := by
        intro j hj
        obtain ⟨a1, ⟨a2, a3⟩, a4⟩ := AX j hj
        refine ⟨a1, ⟨a2, fun i hi => ?_⟩, a4⟩
        rw [pk_un (by omega), pk_un (by omega)]
        exact a3 i hi
      unfold wX_token_134 wX_token_173
      rw [nI_clamp (show o h < 2 ^ 31 by omega)]
      refine ⟨hin, nm_e ⟨hin, nm_e (nm_r (pk_sub hn) ?_)⟩⟩
      rw [nI_clamp (show h - n < 2 ^ 31 by omega)]
      refine pk_eq n 0 (fun z => ⟨hin6, nm_e ⟨hin6, nm_e (nm_r (nI_1 _) (K5 hl _ _ _ _ (xw_ST_tok o0 os ok hn h2 ?_ ?_) ax'))⟩⟩) (fun z => ⟨hin6, nm_e (nm_r (nI_1 _) (K5 hl _ _ _ _ (xw_ST_tok o0 os ok hn h2 ?_ ?_) ax'))⟩)
      · rw [pk_us, z]; rfl
      · intro s q; exact pk_un (by omega)
      · exact (ok (h - n) (by omega)).1
      · intro s q; rfl
    refine br_t (nI_le (Nat.le_refl _) (by omega)) (pk_le _ 24 (fun hl => pk_eq h 0 (fun z => ?_) (fun z => ?_)) (fun hl => K4 hl))
    · have t := p134 hl
      have e : o h = 0 := by rw [z]; exact o0
      rw [e] at t
      exact t
    · rw [xi_e1 (by omega), nI_clamp (show h - 1 < 2 ^ 31 by omega), (ok (h - 1) (by omega)).1, (ok (h - 1) (by omega)).2.1]
      have e := os (h - 1) (by omega)
      rw [show h - 1 + 1 = h by omega] at e
      rw [nI_add, ← e]
      exact ⟨xw_ix (by omega) hh, xw_ix (by omega) hh, p134 hl⟩
  have step : ∀ s, s < h → ∀ q x4 x4', x4' = x4 + nI (S s).1 → wX_token_63 post k a (nI n) (nI h) fa fe fk fs fd kd ag st ln al mb im pr rl rc tb fr hel q x4' (nI (s + 1)) → wX_token_63 post k a (nI n) (nI h) fa fe fk fs fd kd ag st ln al mb im pr rl rc tb fr hel (q + 1) x4 (nI s) := by
    intro s hs q x4 x4' e t
    refine br_f (nI_ge hs (by omega)) ⟨vp_in_nI (by omega) (by decide), nm_r (e' := x4') ?_ (nm_r (nI_1 s) t)⟩
    rw [nI_clamp (by omega), (ok s hs).2.1, e]
  have : n = 0 ∨ n = 1 ∨ n = 2 := by omega
  rcases this with z | z | z
  · refine ⟨1, ?_⟩
    have t := fin 0 (nI h) rfl
    have e : (tm_bs S h n).1 = 0 := by rw [z]; rfl
    rw [e] at t
    have e2 : h - n = h := by omega
    rw [e2]
    exact t
  · refine ⟨2, step (h - n) (by omega) 1 1 _ rfl ?_⟩
    have t := fin 0 (nI (h - n + 1)) (by rw [show h - n + 1 = h by omega])
    have e : (tm_bs S h n).1 = (S (h - n)).1 := by rw [z]; rfl
    have e2 : (1 : Int32) + nI (S (h - n)).1 = nI ((tm_bs S h n).1 + 1) := by
      rw [e, Nat.add_comm]; exact nI_add 1 _
    rw [e2]
    exact t
  · refine ⟨3, step (h - n) (by omega) 2 1 _ rfl (step (h - n + 1) (by omega) 1 _ _ rfl ?_)⟩
    have t := fin 0 (nI (h - n + 1 + 1)) (by rw [show h - n + 1 + 1 = h by omega])
    have e : (tm_bs S h n).1 = (S (h - n)).1 + (S (h - n + 1)).1 := by
      rw [z, show h - 2 + 1 = h - 1 by omega]; rfl
    have e2 : (1 : Int32) + nI (S (h - n)).1 + nI (S (h - n + 1)).1 = nI ((tm_bs S h n).1 + 1) := by
      have e3 : (1 : Int32) + nI (S (h - n)).1 = nI (1 + (S (h - n)).1) := nI_add 1 _
      rw [e3, nI_add, e]
      congr 1
      omega
    rw [e2]
    exact t
theorem xw_token_y {post : Int32 → SX → Prop} {h kk na : Nat} {a : Int32} {S T : Nat → tm_F} (hh : h ≤ 6) (hk : kk ≤ 11) (tk : tm_tk (nI kk) a) (wS : ∀ s, s < h → tm_wf (S s)) (ST : xw_ST h S kd ag st ln) (AX : xw_AX na T kd ag al) (hna : na ≤ 6)
    (K2 : h < tm_tn kk → post (-2) (nI h, fa, fe, fk, fs, fd, kd, ag, st, ln, al, mb, im, pr, rl, rc, tb, fr, hel)) (K3 : tm_tn kk = 0 → h = 6 → post (-3) (nI h, fa, fe, fk, fs, fd, kd, ag, st, ln, al, mb, im, pr, rl, rc, tb, fr, hel))
    (K4 : tm_tn kk ≤ h → ¬ (tm_tn kk = 0 ∧ h = 6) → 24 < (tm_bs S h (tm_tn kk)).1 + 1 → post (-4) (nI h, fa, fe, fk, fs, fd, kd, ag, st, ln, al, mb, im, pr, rl, rc, tb, fr, hel))
    (K5 : tm_tn kk ≤ h → ¬ (tm_tn kk = 0 ∧ h = 6) → (tm_bs S h (tm_tn kk)).1 + 1 ≤ 24 → ∀ kd ag st ln, xw_ST (h - tm_tn kk + 1) (tm_ps S (h - tm_tn kk) (tm_sn (tm_bs S h (tm_tn kk)) (nI kk) a)) kd ag st ln → xw_AX na T kd ag al → post (nI (h - tm_tn kk + 1)) (nI (h - tm_tn kk + 1), fa, fe, fk, fs, fd, kd, ag, st, ln, al, mb, im, pr, rl, rc, tb, fr, hel)) :
    wpX_token post (nI h, fa, fe, fk, fs, fd, kd, ag, st, ln, al, mb, im, pr, rl, rc, tb, fr, hel) (nI kk) a := by
  have t2 := tm_tn_le kk
  unfold wpX_token
  dsimp only
  refine br_f (nI_pos (by omega)) (br_f (nI_nlt (a := 11) hk (by decide)) (xw_fits hk (fun _ => br_f (by decide) (xw_taken hk ?_)) (fun q => absurd tk q)))
  refine pk_le (tm_tn kk) h (fun hn => pk_eq (tm_tn kk) 0 (fun z => pk_lt h 6 (fun h6 => nm_r (pk_sub hn) ?_) (fun h6 => K3 z (by omega))) (fun z => nm_r (pk_sub hn) ?_)) (fun hn => K2 hn)
  · exact xw_tk_63 hh hn t2 (fun _ => h6) wS ST AX hna (K4 hn (by omega)) (K5 hn (by omega))
  · exact xw_tk_63 hh hn t2 (fun q => absurd q z) wS ST AX hna (K4 hn (by omega)) (K5 hn (by omega))
theorem xw_token_n {post : Int32 → SX → Prop} {k a : Int32} (tk : ¬ tm_tk k a) (K : post (-1) (fh, fa, fe, fk, fs, fd, kd, ag, st, ln, al, mb, im, pr, rl, rc, tb, fr, hel)) : wpX_token post (fh, fa, fe, fk, fs, fd, kd, ag, st, ln, al, mb, im, pr, rl, rc, tb, fr, hel) k a := by
  unfold wpX_token
  dsimp only
  refine br_c (fun _ => K) (fun h0 => br_c (fun _ => K) (fun h11 => ?_))
  obtain ⟨kk, hk, rfl⟩ := nI_of2 (M := 11) (n := 11) (by decide) h0 (Int32.not_lt.mp h11)
  exact xw_fits hk (fun q => absurd q tk) (fun _ => br_t rfl K)
end
end
section
/-! tokens: the reference -/
def yw_ST (h : Nat) (S : Nat → tm_F) (sz ky ay : Nat → Int32) : Prop := ∀ s, s < h → yw_SL sz ky ay s (S s)
theorem yw_SL_ap {sz ky ay : Nat → Int32} {s : Nat} {f f' : tm_F} {k a : Int32} (h : yw_SL sz ky ay s f) (e : f'.1 = f.1 + 1) (e1 : ∀ i, i < f.1 → f'.2.1 i = f.2.1 i ∧ f'.2.2 i = f.2.2 i) (e2 : f'.2.1 f.1 = k ∧ f'.2.2 f.1 = a) :
    yw_SL (upd sz s (nI (f.1 + 1))) (upd ky (24 * s + f.1) k) (upd ay (24 * s + f.1) a) s f' := by
  refine ⟨by rw [pk_us, e], fun i hi => ?_⟩
  by_cases z : i = f.1
  · subst z
    rw [pk_us, pk_us, e2.1, e2.2]
    exact ⟨rfl, rfl⟩
  · rw [pk_un (by omega), pk_un (by omega), (e1 i (by omega)).1, (e1 i (by omega)).2]
    exact h.2 i (by omega)
theorem yw_SL_o {sz ky ay : Nat → Int32} {s t c : Nat} {f : tm_F} {x k a : Int32} (h : yw_SL sz ky ay s f) (ne : s ≠ t) (hf : f.1 ≤ 24) (hc : c < 24) : yw_SL (upd sz t x) (upd ky (24 * t + c) k) (upd ay (24 * t + c) a) s f := by
  refine ⟨by rw [pk_un ne]; exact h.1, fun i hi => ?_⟩
  rw [pk_un (by omega), pk_un (by omega)]
  exact h.2 i hi
theorem yw_SL_z {sz ky ay : Nat → Int32} {s t : Nat} {f : tm_F} {x : Int32} (h : yw_SL sz ky ay s f) (ne : s ≠ t) : yw_SL (upd sz t x) ky ay s f :=
  ⟨by rw [pk_un ne]; exact h.1, h.2⟩
section
variable {vd vh va : Int32} {sz ky ay ps : Nat → Int32}
theorem yw_isTok {post : Int32 → Prop} {k a : Int32} (K1 : tm_tk k a → post 1) (K0 : ¬ tm_tk k a → post 0) : wpY_isToken post (vd, vh, va, sz, ky, ay, ps) k a := by
  unfold wpY_isToken wY_isToken_16 wY_isToken_57
  rcases pk_ix k (n := 12) (by decide) with z | z | ⟨kk, hk, rfl⟩
  · have n : post 0 := K0 (fun ⟨kk, g1, g2, _⟩ => by
      rw [g2] at z
      exact nI_pos (by omega) z)
    have ne : ∀ c : Int32, 0 ≤ c → ¬ k = c := fun c hc e => by
      rw [e] at z
      exact absurd z (Int32.not_lt.mpr hc)
    refine br_f (ne 0 (by decide)) (br_f (ne 9 (by decide)) (br_f (ne 10 (by decide)) (br_t (Int32.lt_of_lt_of_le z (by decide)) (br_f (ne 11 (by decide)) (br_t (Int32.lt_of_lt_of_le z (by decide)) n)))))
  · have h0 : ¬ k < 0 := fun q => absurd (Int32.lt_of_le_of_lt z q) (by decide)
    obtain ⟨j, hj, rfl⟩ := nI_of h0
    rw [nI_leI (by decide) hj] at z
    have n : post 0 := K0 (fun ⟨kk, g1, g2, _⟩ => by
      have := (nI_eq hj (by omega)).mp g2
      omega)
    exact pk_eq j 0 (fun q => absurd q (by omega)) (fun _ => pk_eq j 9 (fun q => absurd q (by omega)) (fun _ => pk_eq j 10 (fun q => absurd q (by omega)) (fun _ => pk_lt j 1 (fun q => absurd q (by omega)) (fun _ => pk_lt 3 j (fun _ => pk_eq j 11 (fun q => absurd q (by omega)) (fun _ => pk_lt j 4 (fun q => absurd q (by omega)) (fun _ => pk_lt 8 j (fun _ => n) (fun q => absurd q (by omega))))) (fun q => absurd q (by omega))))))
  · rw [tm_tk_i (by omega)] at K1 K0
    have r2 : (¬ (4 ≤ kk ∧ kk ≤ 8)) → tm_bd kk = 2 → (a < 0 → post 0) ∧ (¬ a < 0 → ((2 < a → post 0) ∧ (¬ 2 < a → post 1))) := fun z e => tm_rg (B := 2) (by decide) rfl (fun q => K1 (fun _ => e ▸ q)) (fun q => K0 (fun y => q (e ▸ y z)))
    have r8 : (¬ (4 ≤ kk ∧ kk ≤ 8)) → tm_bd kk = 8 → (a < 0 → post 0) ∧ (¬ a < 0 → ((8 < a → post 0) ∧ (¬ 8 < a → post 1))) := fun z e => tm_rg (B := 8) (by decide) rfl (fun q => K1 (fun _ => e ▸ q)) (fun q => K0 (fun y => q (e ▸ y z)))
    have r5 : (¬ (4 ≤ kk ∧ kk ≤ 8)) → tm_bd kk = 5 → (a < 0 → post 0) ∧ (¬ a < 0 → ((5 < a → post 0) ∧ (¬ 5 < a → post 1))) := fun z e => tm_rg (B := 5) (by decide) rfl (fun q => K1 (fun _ => e ▸ q)) (fun q => K0 (fun y => q (e ▸ y z)))
    have k1 : 4 ≤ kk ∧ kk ≤ 8 → post 1 := fun z => K1 (fun y => absurd z y)
    have b3 : 1 ≤ kk → kk ≤ 3 → tm_bd kk = 8 := fun q1 q2 => by unfold tm_bd; rw [if_neg (by omega), if_pos (by omega)]
    refine pk_eq kk 0 (fun q => r2 (by omega) (by subst q; rfl)) (fun z0 => pk_eq kk 9 (fun q => r2 (by omega) (by subst q; rfl)) (fun z9 => pk_eq kk 10 (fun q => r2 (by omega) (by subst q; rfl)) (fun z10 => pk_lt kk 1 (fun q => absurd q (by omega)) (fun _ => pk_lt 3 kk (fun g => pk_eq kk 11 (fun q => r5 (by omega) (by subst q; rfl)) (fun z11 => pk_lt kk 4 (fun q => absurd q (by omega)) (fun _ => pk_lt 8 kk (fun q => absurd q (by omega)) (fun q => k1 (by omega))))) (fun g => r8 (by omega) (b3 (by omega) g))))))
theorem yw_ap {post : SY → Prop} {s c : Nat} {k a : Int32} (hs : s < 12) (hc : c < 24) (hz : sz s = nI c) (K : post (vd, vh, va, upd sz s (nI (c + 1)), upd ky (24 * s + c) k, upd ay (24 * s + c) a, ps)) : wpY_append post (vd, vh, va, sz, ky, ay, ps) (nI s) k a := by
  unfold wpY_append
  dsimp only
  rw [nI_clamp (show s < 2 ^ 31 by omega), hz, xi_24, nI_clamp (show 24 * s + c < 2 ^ 31 by omega), nI_1]
  have h1 : vp_in (nI s) 12 := vp_in_nI hs (by decide)
  have h2 : vp_in (nI (24 * s + c)) 288 := vp_in_nI (by omega) (by decide)
  exact ⟨h1, h2, nm_e ⟨h1, h2, nm_e ⟨h1, h1, nm_e K⟩⟩⟩
theorem yw_tk_198 {post : Int32 → SY → Prop} {s na : Nat} {k a : Int32} {S T : Nat → tm_F} {f : tm_F} (hs : s ≤ 5) (hf : f.1 + 1 ≤ 24) (wS : ∀ t, t < s → tm_wf (S t)) (ST : yw_ST s S sz ky ay) (AX : yw_AX na T sz ky ay) (hna : na ≤ 6) (sl : yw_SL sz ky ay s f)
    (K : ∀ sz ky ay, yw_ST (s + 1) (tm_ps S s (tm_sn f k a)) sz ky ay → yw_AX na T sz ky ay → post (nI (s + 1)) (vd, nI (s + 1), va, sz, ky, ay, ps)) : wY_token_198 post k a (nI s) vd vh va sz ky ay ps := by
  unfold wY_token_198
  refine yw_ap (by omega) (by omega) sl.1 (nm_r (nI_1 s) (K _ _ _ (fun t ht => ?_) (fun j hj => ⟨yw_SL_o (AX j hj).1 (by omega) (AX j hj).2.1 (by omega), (AX j hj).2⟩)))
  unfold tm_ps
  by_cases z : t = s
  · rw [if_pos z, z]
    refine yw_SL_ap sl rfl (fun i hi => ⟨if_pos hi, if_pos hi⟩) ⟨if_neg (Nat.lt_irrefl _), if_neg (Nat.lt_irrefl _)⟩
  · rw [if_neg z]
    exact yw_SL_o (ST t (by omega)) z (wS t (by omega)).1 (by omega)
/-- the tokens of the formula above come behind those of the slot -/
theorem yw_tk_135 {post : Int32 → SY → Prop} {s na : Nat} {k a : Int32} {S T : Nat → tm_F} {f g : tm_F} (hs : s ≤ 4) (hf : f.1 + g.1 + 1 ≤ 24) (wS : ∀ t, t < s → tm_wf (S t)) (hna : na ≤ 6)
    (K : ∀ sz ky ay, yw_ST (s + 1) (tm_ps S s (tm_sn (tm_a2 f g) k a)) sz ky ay → yw_AX na T sz ky ay → post (nI (s + 1)) (vd, nI (s + 1), va, sz, ky, ay, ps)) :
    ∀ (r i : Nat) (sz ky ay : Nat → Int32), i + r = g.1 → yw_ST s S sz ky ay → yw_AX na T sz ky ay → yw_SL sz ky ay s (f.1 + i, (tm_a2 f g).2) → yw_SL sz ky ay (s + 1) g → wY_token_135 post k a 2 (nI s) (r + 1) (nI i) vd vh va sz ky ay ps := by
  intro r
  induction r with
  | zero =>
    intro i sz ky ay h ST AX sl sg
    have e : i = g.1 := by omega
    rw [e] at sl
    rw [e]
    refine br_t rfl ?_
    rw [nI_1, nI_clamp (show s + 1 < 2 ^ 31 by omega), sg.1]
    exact ⟨vp_in_nI (by omega) (by decide), br_t (nI_le (Nat.le_refl _) (by omega)) (yw_tk_198 (f := tm_a2 f g) (by omega) hf wS ST AX hna sl K)⟩
  | succ r ih =>
    intro i sz ky ay h ST AX sl sg
    have e24 : (24 : Int32) * nI s + 24 + nI i = nI (24 * s + 24 + i) := by
      have h1 : (24 : Int32) * nI s = nI (24 * s) := pk_mul 24 s
      have h2 : nI (24 * s) + 24 = nI (24 * s + 24) := nI_add _ 24
      rw [h1, h2, nI_add]
    have ei : 24 * s + 24 + i = 24 * (s + 1) + i := by omega
    have hv : vp_in (nI (24 * s + 24 + i)) 288 := vp_in_nI (by omega) (by decide)
    have ep : (tm_a2 f g).2.1 (f.1 + i) = g.2.1 i ∧ (tm_a2 f g).2.2 (f.1 + i) = g.2.2 i := by
      refine ⟨?_, ?_⟩
      · show (if f.1 + i < f.1 then _ else g.2.1 (f.1 + i - f.1)) = _
        rw [if_neg (by omega), Nat.add_sub_cancel_left]
      · show (if f.1 + i < f.1 then _ else g.2.2 (f.1 + i - f.1)) = _
        rw [if_neg (by omega), Nat.add_sub_cancel_left]
    refine br_t rfl ?_
    rw [nI_1, nI_clamp (show s + 1 < 2 ^ 31 by omega), sg.1, e24, nI_clamp (show 24 * s + 24 + i < 2 ^ 31 by omega), ei, (sg.2 i (by omega)).1, (sg.2 i (by omega)).2, ← ei]
    refine ⟨vp_in_nI (by omega) (by decide), br_f (nI_ge (by omega) (by omega)) ⟨hv, hv, yw_ap (c := f.1 + i) (by omega) (by omega) sl.1 (nm_r (nI_1 i) (ih (i + 1) _ _ _ (by omega) (fun t ht => yw_SL_o (ST t ht) (by omega) (wS t ht).1 (by omega)) (fun j hj => ⟨yw_SL_o (AX j hj).1 (by omega) (AX j hj).2.1 (by omega), (AX j hj).2⟩) ?_ ?_))⟩⟩
    · exact yw_SL_ap (f := (f.1 + i, (tm_a2 f g).2)) sl rfl (fun _ _ => ⟨rfl, rfl⟩) ep
    · exact yw_SL_o sg (by omega) (by omega) (by omega)
theorem yw_tk_75 {post : Int32 → SY → Prop} {h n na : Nat} {k a : Int32} {S T : Nat → tm_F} (hh : h ≤ 6) (hn : n ≤ h) (h2 : n ≤ 2) (h06 : n = 0 → h < 6) (wS : ∀ s, s < h → tm_wf (S s)) (ST : yw_ST h S sz ky ay) (AX : yw_AX na T sz ky ay) (hna : na ≤ 6)
    (K4 : 24 < (tm_bs S h n).1 + 1 → post (-4) (vd, nI h, va, sz, ky, ay, ps)) (K5 : (tm_bs S h n).1 + 1 ≤ 24 → ∀ sz ky ay, yw_ST (h - n + 1) (tm_ps S (h - n) (tm_sn (tm_bs S h n) k a)) sz ky ay → yw_AX na T sz ky ay → post (nI (h - n + 1)) (vd, nI (h - n + 1), va, sz, ky, ay, ps)) :
    ∃ q, wY_token_75 post k a (nI n) vd (nI h) va sz ky ay ps q 1 (nI (h - n)) := by
  have l1 : (tm_bs S h n).1 ≤ 48 := by
    unfold tm_bs
    by_cases z : n = 0
    · rw [if_pos z]; exact Nat.zero_le _
    · by_cases y : n = 1
      · rw [if_neg z, if_pos y]
        have := (wS (h - 1) (by omega)).1
        omega
      · rw [if_neg z, if_neg y]
        have := (wS (h - 1) (by omega)).1
        have := (wS (h - 2) (by omega)).1
        show (S (h - 2)).1 + (S (h - 1)).1 ≤ 48
        omega
  have wS' : ∀ t, t < h - n → tm_wf (S t) := fun t ht => wS t (by omega)
  have fin : ∀ q x5, x5 = nI h → wY_token_75 post k a (nI n) vd (nI h) va sz ky ay ps (q + 1) (nI ((tm_bs S h n).1 + 1)) x5 := by
    intro q x5 e5
    subst e5
    refine br_t (nI_le (Nat.le_refl _) (by omega)) (pk_le _ 24 (fun hl => nm_r (pk_sub hn) ?_) (fun hl => K4 hl))
    have k5 := K5 hl
    refine pk_eq n 0 (fun z => ⟨vp_in_nI (by omega) (by decide), nm_e ⟨1, ?_⟩⟩) (fun z => ?_)
    · rw [nI_clamp (show h - n < 2 ^ 31 by omega)]
      have eb : tm_bs S h n = tm_e0 := by unfold tm_bs; rw [if_pos z]
      rw [eb] at k5
      refine br_f ?_ (yw_tk_198 (f := tm_e0) (by omega) (by decide) wS' (fun t ht => yw_SL_z (ST t (by omega)) (by omega)) (fun j hj => ⟨yw_SL_z (AX j hj).1 (by omega), (AX j hj).2⟩) hna ⟨pk_us, fun i hi => absurd hi (Nat.not_lt_zero i)⟩ k5)
      rw [z]; decide
    · by_cases y : n = 1
      · have eb : tm_bs S h n = S (h - n) := by unfold tm_bs; rw [if_neg z, if_pos y, y]
        rw [eb] at k5 hl
        refine ⟨1, br_f ?_ (yw_tk_198 (by omega) hl wS' (fun t ht => ST t (by omega)) AX hna (ST (h - n) (by omega)) k5)⟩
        rw [y]; decide
      · have e2 : n = 2 := by omega
        have eb : tm_bs S h n = tm_a2 (S (h - n)) (S (h - n + 1)) := by unfold tm_bs; rw [if_neg z, if_neg y, e2, show h - 2 + 1 = h - 1 by omega]
        rw [eb] at k5 hl
        have hl2 : (S (h - n)).1 + (S (h - n + 1)).1 + 1 ≤ 24 := hl
        refine ⟨(S (h - n + 1)).1 + 1, ?_⟩
        have hsl : yw_SL sz ky ay (h - n) ((S (h - n)).1 + 0, (tm_a2 (S (h - n)) (S (h - n + 1))).2) := by
          refine ⟨(ST (h - n) (by omega)).1, fun i hi => ?_⟩
          have hi2 : i < (S (h - n)).1 := hi
          show _ = (if i < (S (h - n)).1 then _ else _) ∧ _ = (if i < (S (h - n)).1 then _ else _)
          rw [if_pos hi2, if_pos hi2]
          exact (ST (h - n) (by omega)).2 i hi2
        have t := yw_tk_135 (vh := nI h) (k := k) (a := a) (by omega) hl2 wS' hna k5 (S (h - n + 1)).1 0 sz ky ay (by omega) (fun t ht => ST t (by omega)) AX hsl (ST (h - n + 1) (by omega))
        rw [e2] at t ⊢
        exact t
  have step : ∀ s, s < h → ∀ q x4 x4', x4' = x4 + nI (S s).1 → wY_token_75 post k a (nI n) vd (nI h) va sz ky ay ps q x4' (nI (s + 1)) → wY_token_75 post k a (nI n) vd (nI h) va sz ky ay ps (q + 1) x4 (nI s) := by
    intro s hs q x4 x4' e t
    refine br_f (nI_ge hs (by omega)) ⟨vp_in_nI (by omega) (by decide), nm_r (e' := x4') ?_ (nm_r (nI_1 s) t)⟩
    rw [nI_clamp (by omega), (ST s hs).1, e]
  have : n = 0 ∨ n = 1 ∨ n = 2 := by omega
  rcases this with z | z | z
  · refine ⟨1, ?_⟩
    have t := fin 0 (nI h) rfl
    have e : (tm_bs S h n).1 = 0 := by rw [z]; rfl
    rw [e] at t
    have e2 : h - n = h := by omega
    rw [e2]
    exact t
  · refine ⟨2, step (h - n) (by omega) 1 1 _ rfl ?_⟩
    have t := fin 0 (nI (h - n + 1)) (by rw [show h - n + 1 = h by omega])
    have e : (tm_bs S h n).1 = (S (h - n)).1 := by rw [z]; rfl
    have e2 : (1 : Int32) + nI (S (h - n)).1 = nI ((tm_bs S h n).1 + 1) := by
      rw [e, Nat.add_comm]; exact nI_add 1 _
    rw [e2]
    exact t
  · refine ⟨3, step (h - n) (by omega) 2 1 _ rfl (step (h - n + 1) (by omega) 1 _ _ rfl ?_)⟩
    have t := fin 0 (nI (h - n + 1 + 1)) (by rw [show h - n + 1 + 1 = h by omega])
    have e : (tm_bs S h n).1 = (S (h - n)).1 + (S (h - n + 1)).1 := by
      rw [z, show h - 2 + 1 = h - 1 by omega]; rfl
    have e2 : (1 : Int32) + nI (S (h - n)).1 + nI (S (h - n + 1)).1 = nI ((tm_bs S h n).1 + 1) := by
      have e3 : (1 : Int32) + nI (S (h - n)).1 = nI (1 + (S (h - n)).1) := nI_add 1 _
      rw [e3, nI_add, e]
      congr 1
      omega
    rw [e2]
    exact t
theorem yw_token_y {post : Int32 → SY → Prop} {h kk na : Nat} {a : Int32} {S T : Nat → tm_F} (hh : h ≤ 6) (hk : kk ≤ 11) (tk : tm_tk (nI kk) a) (wS : ∀ s, s < h → tm_wf (S s)) (ST : yw_ST h S sz ky ay) (AX : yw_AX na T sz ky ay) (hna : na ≤ 6)
    (K2 : h < tm_tn kk → post (-2) (vd, nI h, va, sz, ky, ay, ps)) (K3 : tm_tn kk = 0 → h = 6 → post (-3) (vd, nI h, va, sz, ky, ay, ps))
    (K4 : tm_tn kk ≤ h → ¬ (tm_tn kk = 0 ∧ h = 6) → 24 < (tm_bs S h (tm_tn kk)).1 + 1 → post (-4) (vd, nI h, va, sz, ky, ay, ps))
    (K5 : tm_tn kk ≤ h → ¬ (tm_tn kk = 0 ∧ h = 6) → (tm_bs S h (tm_tn kk)).1 + 1 ≤ 24 → ∀ sz ky ay, yw_ST (h - tm_tn kk + 1) (tm_ps S (h - tm_tn kk) (tm_sn (tm_bs S h (tm_tn kk)) (nI kk) a)) sz ky ay → yw_AX na T sz ky ay → post (nI (h - tm_tn kk + 1)) (vd, nI (h - tm_tn kk + 1), va, sz, ky, ay, ps)) :
    wpY_token post (vd, nI h, va, sz, ky, ay, ps) (nI kk) a := by
  have t2 := tm_tn_le kk
  have key : ∀ z : Int32, z = nI (tm_tn kk) → wY_token_36 post (nI kk) a z vd (nI h) va sz ky ay ps := by
    intro z hz
    subst hz
    unfold wY_token_36
    refine pk_le (tm_tn kk) h (fun hn => pk_eq (tm_tn kk) 0 (fun z => pk_eq h 6 (fun h6 => K3 z h6) (fun h6 => nm_r (pk_sub hn) ?_)) (fun z => nm_r (pk_sub hn) ?_)) (fun hn => K2 hn)
    · exact yw_tk_75 hh hn t2 (fun _ => by omega) wS ST AX hna (K4 hn (by omega)) (K5 hn (by omega))
    · exact yw_tk_75 hh hn t2 (fun q => absurd q z) wS ST AX hna (K4 hn (by omega)) (K5 hn (by omega))
  unfold wpY_token wY_token_35
  dsimp only
  refine yw_isTok (fun _ => br_f (by decide) (pk_le 4 kk (fun h4 => pk_lt kk 5 (fun h5 => key 1 ?_) (fun h5 => pk_lt 8 kk (fun h8 => key 1 ?_) (fun h8 => key 2 ?_))) (fun h4 => key 0 ?_))) (fun q => absurd tk q)
  · rw [tm_tn_1 (by omega)]; rfl
  · rw [tm_tn_1 (by omega)]; rfl
  · rw [tm_tn_2 (by omega) (by omega)]; rfl
  · rw [tm_tn_0 (by omega)]; rfl
theorem yw_token_n {post : Int32 → SY → Prop} {k a : Int32} (tk : ¬ tm_tk k a) (K : post (-1) (vd, vh, va, sz, ky, ay, ps)) : wpY_token post (vd, vh, va, sz, ky, ay, ps) k a := by
  unfold wpY_token
  dsimp only
  exact yw_isTok (fun q => absurd q tk) (fun _ => br_t rfl K)
end
end
section
/-! the theory: laying, retracting; copies -/
/-- from k0 on, i places from t on hold what i places from f on held -/
def xw_CP (k0 : Nat → Int32) (f t i : Nat) (k : Nat → Int32) : Prop := ∀ j, k j = if t ≤ j ∧ j < t + i then k0 (f + (j - t)) else k0 j
theorem xw_CP_0 (k0 : Nat → Int32) (f t : Nat) : xw_CP k0 f t 0 k0 := fun j => (if_neg (by omega)).symm
theorem xw_CP_s {k0 k : Nat → Int32} {f t i : Nat} (h : xw_CP k0 f t i k) (hd : f + i < t ∨ t + i ≤ f) : xw_CP k0 f t (i + 1) (upd k (t + i) (k (f + i))) := by
  intro j
  by_cases z : j = t + i
  · subst z
    rw [pk_us, h (f + i), if_neg (by omega), if_pos (by omega), Nat.add_sub_cancel_left]
  · rw [pk_un z, h j]
    by_cases y : t ≤ j ∧ j < t + i
    · rw [if_pos y, if_pos (by omega)]
    · rw [if_neg y, if_neg (by omega)]
theorem xw_CP_n {k0 k : Nat → Int32} {f t i j : Nat} (h : xw_CP k0 f t i k) (hj : ¬ (t ≤ j ∧ j < t + i)) : k j = k0 j := by rw [h j, if_neg hj]
theorem xw_CP_y {k0 k : Nat → Int32} {f t i x : Nat} (h : xw_CP k0 f t i k) (hx : x < i) : k (t + x) = k0 (f + x) := by rw [h (t + x), if_pos (by omega), Nat.add_sub_cancel_left]
theorem xw_SL_n {kd ag kd' ag' : Nat → Int32} {f t n o : Nat} {q : tm_F} (h : xw_SL kd ag o q) (c1 : xw_CP kd f t n kd') (c2 : xw_CP ag f t n ag') (hd : o + q.1 ≤ t ∨ t + n ≤ o) : xw_SL kd' ag' o q := by
  refine ⟨h.1, fun i hi => ?_⟩
  rw [xw_CP_n c1 (by omega), xw_CP_n c2 (by omega)]
  exact h.2 i hi
theorem xw_SL_y {kd ag kd' ag' : Nat → Int32} {f t n : Nat} {q : tm_F} (h : xw_SL kd ag f q) (c1 : xw_CP kd f t n kd') (c2 : xw_CP ag f t n ag') (hn : q.1 ≤ n) (ht : t + n ≤ 288) : xw_SL kd' ag' t q := by
  refine ⟨by omega, fun i hi => ?_⟩
  rw [xw_CP_y c1 (by omega), xw_CP_y c2 (by omega)]
  exact h.2 i hi
theorem xw_ST_n {h : Nat} {S : Nat → tm_F} {kd ag st ln kd' ag' : Nat → Int32} {f t n : Nat} (hh : h ≤ 6) (wS : ∀ s, s < h → tm_wf (S s)) (ST : xw_ST h S kd ag st ln) (c1 : xw_CP kd f t n kd') (c2 : xw_CP ag f t n ag') (ht : 144 ≤ t) : xw_ST h S kd' ag' st ln := by
  obtain ⟨o, o0, os, ok⟩ := ST
  refine ⟨o, o0, os, fun s hs => ?_⟩
  obtain ⟨a1, a2, a3⟩ := ok s hs
  refine ⟨a1, a2, fun i hi => ?_⟩
  have b := xw_o_le o0 os wS s (by omega)
  have c := (wS s hs).1
  rw [xw_CP_n c1 (by omega), xw_CP_n c2 (by omega)]
  exact a3 i hi
theorem xw_ST_drop {h g : Nat} {S : Nat → tm_F} {kd ag st ln : Nat → Int32} (ST : xw_ST h S kd ag st ln) (hg : g ≤ h) : xw_ST g S kd ag st ln := by
  obtain ⟨o, o0, os, ok⟩ := ST
  exact ⟨o, o0, fun s hs => os s (by omega), fun s hs => ok s (by omega)⟩
/-- one of the axioms as it lies -/
def xw_A1 (kd ag al : Nat → Int32) (j : Nat) (f : tm_F) : Prop := al j = nI f.1 ∧ xw_SL kd ag (144 + 24 * j) f ∧ tm_wf f
/-- the axioms without one -/
def tm_rt (T : Nat → tm_F) (i : Nat) : Nat → tm_F := fun j => if j < i then T j else T (j + 1)
section
variable {fh fa fe fk fs fd : Int32} {kd ag st ln al : Nat → Int32} {mb : Nat → Int64} {im : Nat → Int32} {pr rl rc tb fr hel : Nat → Int64}
theorem xw_cp_3 {post : SX → Prop} {f t n : Nat} (hf : f + n ≤ 288) (ht : t + n ≤ 288) (hd : f + n ≤ t ∨ t + n ≤ f) {k0 a0 : Nat → Int32} (K : ∀ kd ag, xw_CP k0 f t n kd → xw_CP a0 f t n ag → post (fh, fa, fe, fk, fs, fd, kd, ag, st, ln, al, mb, im, pr, rl, rc, tb, fr, hel)) :
    ∀ (r i : Nat) (kd ag : Nat → Int32), i + r = n → xw_CP k0 f t i kd → xw_CP a0 f t i ag → wX_copy_3 post (nI f) (nI t) (nI n) fh fa fe fk fs fd (r + 1) (nI i) kd ag st ln al mb im pr rl rc tb fr hel := by
  intro r
  induction r with
  | zero =>
    intro i kd ag h c1 c2
    have e : i = n := by omega
    subst e
    exact br_t (nI_le (Nat.le_refl _) (by omega)) (K kd ag c1 c2)
  | succ r ih =>
    intro i kd ag h c1 c2
    refine br_f (nI_ge (by omega) (by omega)) ?_
    rw [xi_cl (show f + i < 2 ^ 31 by omega), xi_cl (show t + i < 2 ^ 31 by omega)]
    have h1 : vp_in (nI f + nI i) 288 := xi_in (by omega) (by decide)
    have h2 : vp_in (nI t + nI i) 288 := xi_in (by omega) (by decide)
    exact ⟨h1, h2, nm_e ⟨h1, h2, nm_e (nm_r (nI_1 i) (ih (i + 1) _ _ (by omega) (xw_CP_s c1 (by omega)) (xw_CP_s c2 (by omega))))⟩⟩
theorem xw_cp {post : SX → Prop} {f t n : Nat} (hf : f + n ≤ 288) (ht : t + n ≤ 288) (hd : f + n ≤ t ∨ t + n ≤ f) (K : ∀ kd' ag', xw_CP kd f t n kd' → xw_CP ag f t n ag' → post (fh, fa, fe, fk, fs, fd, kd', ag', st, ln, al, mb, im, pr, rl, rc, tb, fr, hel)) : wpX_copy post (fh, fa, fe, fk, fs, fd, kd, ag, st, ln, al, mb, im, pr, rl, rc, tb, fr, hel) (nI f) (nI t) (nI n) :=
  ⟨n + 1, xw_cp_3 hf ht hd K n 0 kd ag (by omega) (xw_CP_0 _ _ _) (xw_CP_0 _ _ _)⟩
theorem xi_144 (j : Nat) : (144 : Int32) + 24 * nI j = nI (144 + 24 * j) := by
  have a : (24 : Int32) * nI j = nI (24 * j) := pk_mul 24 j
  rw [a]
  exact nI_add 144 (24 * j)
theorem xw_axiom_y {post : Int32 → SX → Prop} {h na : Nat} {S T : Nat → tm_F} (h1 : 1 ≤ h) (hh : h ≤ 6) (hna : na < 6) (wS : ∀ s, s < h → tm_wf (S s)) (ST : xw_ST h S kd ag st ln) (AX : xw_AX na T kd ag al)
    (K : ∀ kd ag al, xw_ST (h - 1) S kd ag st ln → xw_AX (na + 1) (tm_ps T na (S (h - 1))) kd ag al → post (nI (na + 1)) (nI (h - 1), nI (na + 1), fe, 0, fs, fd, kd, ag, st, ln, al, mb, im, pr, rl, rc, tb, fr, hel)) : wpX_axiom post (nI h, nI na, fe, fk, fs, fd, kd, ag, st, ln, al, mb, im, pr, rl, rc, tb, fr, hel) := by
  obtain ⟨o, e1, e2, hs⟩ := xw_ST_TP hh wS ST (s := h - 1) (by omega)
  obtain ⟨o2, o0, os, ok⟩ := ST
  have ho := xw_o_le o0 os wS (h - 1) (by omega)
  have w1 := (wS (h - 1) (by omega)).1
  have eo : o = o2 (h - 1) := by
    have a := (ok (h - 1) (by omega)).1
    rw [e1] at a
    exact (nI_eq (by have := hs.1; omega) (by omega)).mp a
  have ho6 : o + (S (h - 1)).1 ≤ 144 := by omega
  have ST : xw_ST h S kd ag st ln := ⟨o2, o0, os, ok⟩
  have hx := xw_ix h1 hh
  unfold wpX_axiom
  dsimp only
  refine br_f (nI_ne0 (by omega) (by omega)) (br_t (nI_lt (b := 6) hna (by decide)) (nm_r (xi_e1 h1) ?_))
  rw [nI_clamp (show h - 1 < 2 ^ 31 by omega), e1, e2, xi_144]
  refine ⟨hx, hx, xw_cp (by omega) (by omega) (by omega) (fun kd' ag' c1 c2 => ⟨hx, vp_in_nI hna (by decide), nm_r (e' := upd al na (nI (S (h - 1)).1)) ?_ (nm_r (nI_1 na) (K _ _ _ (xw_ST_drop (xw_ST_n hh wS ST c1 c2 (by omega)) (by omega)) (fun j hj => ?_)))⟩)⟩
  · show upd al (nI na).toNatClampNeg (ln (nI (h - 1)).toNatClampNeg) = _
    rw [nI_clamp (show na < 2 ^ 31 by omega), nI_clamp (show h - 1 < 2 ^ 31 by omega), e2]
  · unfold tm_ps
    by_cases z : j = na
    · rw [if_pos z, z]
      exact ⟨pk_us, xw_SL_y hs c1 c2 (Nat.le_refl _) (by omega), wS (h - 1) (by omega)⟩
    · rw [if_neg z, pk_un z]
      obtain ⟨a1, a2, a3⟩ := AX j (by omega)
      have := a3.1
      exact ⟨a1, xw_SL_n a2 c1 c2 (by omega), a3⟩
theorem xw_axiom_n {post : Int32 → SX → Prop} {h na : Nat} (hh : h ≤ 6) (hna : na ≤ 6) (K1 : h = 0 → post (-1) (nI h, nI na, fe, fk, fs, fd, kd, ag, st, ln, al, mb, im, pr, rl, rc, tb, fr, hel)) (K2 : h ≠ 0 → na = 6 → post (-2) (nI h, nI na, fe, fk, fs, fd, kd, ag, st, ln, al, mb, im, pr, rl, rc, tb, fr, hel)) (hn : h = 0 ∨ na = 6) : wpX_axiom post (nI h, nI na, fe, fk, fs, fd, kd, ag, st, ln, al, mb, im, pr, rl, rc, tb, fr, hel) := by
  unfold wpX_axiom
  dsimp only
  exact pk_eq h 0 K1 (fun z => pk_lt na 6 (fun q => absurd q (by omega)) (fun q => K2 z (by omega)))
theorem xw_rt_26 {post : Int32 → SX → Prop} {h na i : Nat} {S T : Nat → tm_F} (hh : h ≤ 6) (hna : na ≤ 6) (wS : ∀ s, s < h → tm_wf (S s))
    (K : ∀ kd ag al, xw_ST h S kd ag st ln → xw_AX (na - 1) (tm_rt T i) kd ag al → post (nI (na - 1)) (fh, nI (na - 1), fe, 0, fs, fd, kd, ag, st, ln, al, mb, im, pr, rl, rc, tb, fr, hel)) :
    ∀ (r j : Nat) (kd ag al : Nat → Int32), j + r = na - 1 → i ≤ j → xw_ST h S kd ag st ln → (∀ t, t < j → xw_A1 kd ag al t (tm_rt T i t)) → (∀ t, j < t → t < na → xw_A1 kd ag al t (T t)) → wX_retract_26 post (r + 1) (nI j) fh (nI (na - 1)) fe fk fs fd kd ag st ln al mb im pr rl rc tb fr hel := by
  intro r
  induction r with
  | zero =>
    intro j kd ag al h ij ST a1 a2
    have e : j = na - 1 := by omega
    rw [e] at a1
    rw [e]
    exact br_t (nI_le (Nat.le_refl _) (by omega)) (K kd ag al ST a1)
  | succ r ih =>
    intro j kd ag al h ij ST a1 a2
    obtain ⟨q1, q2, q3⟩ := a2 (j + 1) (by omega) (by omega)
    have q24 := q3.1
    refine br_f (nI_ge (by omega) (by omega)) ?_
    rw [nI_1, xi_144, xi_144]
    refine xw_cp (n := 24) (by omega) (by omega) (by omega) (fun kd' ag' c1 c2 => ⟨vp_in_nI (by omega) (by decide), vp_in_nI (by omega) (by decide), nm_r (e' := upd al j (nI (T (j + 1)).1)) ?_ (nm_r (e' := nI (j + 1)) rfl (ih (j + 1) _ _ _ (by omega) (by omega) (xw_ST_n hh wS ST c1 c2 (by omega)) (fun t ht => ?_) (fun t ht1 ht2 => ?_)))⟩)
    · rw [nI_clamp (show j < 2 ^ 31 by omega), nI_clamp (show j + 1 < 2 ^ 31 by omega), q1]
    · by_cases z : t = j
      · subst z
        have er : tm_rt T i t = T (t + 1) := if_neg (by omega)
        rw [er]
        exact ⟨pk_us, xw_SL_y q2 c1 c2 q24 (by omega), q3⟩
      · obtain ⟨b1, b2, b3⟩ := a1 t (by omega)
        have := b3.1
        exact ⟨by rw [pk_un z]; exact b1, xw_SL_n b2 c1 c2 (by omega), b3⟩
    · obtain ⟨b1, b2, b3⟩ := a2 t (by omega) ht2
      have := b3.1
      exact ⟨by rw [pk_un (by omega)]; exact b1, xw_SL_n b2 c1 c2 (by omega), b3⟩
theorem xw_retract_y {post : Int32 → SX → Prop} {h na i : Nat} {S T : Nat → tm_F} (hh : h ≤ 6) (hna : na ≤ 6) (hi : i < na) (wS : ∀ s, s < h → tm_wf (S s)) (ST : xw_ST h S kd ag st ln) (AX : xw_AX na T kd ag al)
    (K : ∀ kd ag al, xw_ST h S kd ag st ln → xw_AX (na - 1) (tm_rt T i) kd ag al → post (nI (na - 1)) (fh, nI (na - 1), fe, 0, fs, fd, kd, ag, st, ln, al, mb, im, pr, rl, rc, tb, fr, hel)) : wpX_retract post (fh, nI na, fe, fk, fs, fd, kd, ag, st, ln, al, mb, im, pr, rl, rc, tb, fr, hel) (nI i) := by
  unfold wpX_retract
  dsimp only
  refine br_f (nI_pos (by omega)) (br_t (nI_lt hi (by omega)) (nm_r (xi_e1 (by omega)) ⟨_, xw_rt_26 hh hna wS K (na - 1 - i) i kd ag al (by omega) (Nat.le_refl _) ST (fun t ht => ?_) (fun t _ ht => AX t ht)⟩))
  have er : tm_rt T i t = T t := if_pos ht
  rw [er]
  exact AX t (by omega)
theorem xw_retract_n {post : Int32 → SX → Prop} {na : Nat} {x : Int32} (h : x < 0 ∨ nI na ≤ x) (K : post (-1) (fh, nI na, fe, fk, fs, fd, kd, ag, st, ln, al, mb, im, pr, rl, rc, tb, fr, hel)) : wpX_retract post (fh, nI na, fe, fk, fs, fd, kd, ag, st, ln, al, mb, im, pr, rl, rc, tb, fr, hel) x := by
  unfold wpX_retract
  dsimp only
  exact br_c (fun _ => K) (fun z => br_f (Int32.not_lt.mpr (h.resolve_left z)) K)
end
/-! the reference -/
theorem yw_SL_n {sz ky ay ky' ay' : Nat → Int32} {f t s : Nat} {q : tm_F} {x : Int32} (h : yw_SL sz ky ay s q) (c1 : xw_CP ky (24 * f) (24 * t) 24 ky') (c2 : xw_CP ay (24 * f) (24 * t) 24 ay') (hq : q.1 ≤ 24) (ne : s ≠ t) : yw_SL (upd sz t x) ky' ay' s q := by
  refine ⟨by rw [pk_un ne]; exact h.1, fun i hi => ?_⟩
  rw [xw_CP_n c1 (by omega), xw_CP_n c2 (by omega)]
  exact h.2 i hi
theorem yw_SL_y {sz ky ay ky' ay' : Nat → Int32} {f t : Nat} {q : tm_F} (h : yw_SL sz ky ay f q) (c1 : xw_CP ky (24 * f) (24 * t) 24 ky') (c2 : xw_CP ay (24 * f) (24 * t) 24 ay') (hq : q.1 ≤ 24) : yw_SL (upd sz t (sz f)) ky' ay' t q := by
  refine ⟨by rw [pk_us]; exact h.1, fun i hi => ?_⟩
  rw [xw_CP_y c1 (by omega), xw_CP_y c2 (by omega)]
  exact h.2 i hi
section
variable {vd vh va : Int32} {sz ky ay ps : Nat → Int32}
theorem yw_cp_14 {post : SY → Prop} {f t : Nat} (hf : f < 12) (ht : t < 12) (hd : f ≠ t) {k0 a0 : Nat → Int32} (K : ∀ ky ay, xw_CP k0 (24 * f) (24 * t) 24 ky → xw_CP a0 (24 * f) (24 * t) 24 ay → post (vd, vh, va, sz, ky, ay, ps)) :
    ∀ (r i : Nat) (ky ay : Nat → Int32), i + r = 24 → xw_CP k0 (24 * f) (24 * t) i ky → xw_CP a0 (24 * f) (24 * t) i ay → wY_copy_14 post (nI f) (nI t) vd vh va (r + 1) (nI i) sz ky ay ps := by
  intro r
  induction r with
  | zero =>
    intro i ky ay h c1 c2
    have e : i = 24 := by omega
    subst e
    exact br_t (nI_le (a := 24) (b := 24) (Nat.le_refl _) (by decide)) (K ky ay c1 c2)
  | succ r ih =>
    intro i ky ay h c1 c2
    refine br_f (nI_ge (b := 24) (by omega) (by decide)) ?_
    rw [xi_24, xi_24, nI_clamp (show 24 * f + i < 2 ^ 31 by omega), nI_clamp (show 24 * t + i < 2 ^ 31 by omega)]
    have h1 : vp_in (nI (24 * f + i)) 288 := vp_in_nI (by omega) (by decide)
    have h2 : vp_in (nI (24 * t + i)) 288 := vp_in_nI (by omega) (by decide)
    exact ⟨h1, h2, nm_e ⟨h1, h2, nm_e (nm_r (nI_1 i) (ih (i + 1) _ _ (by omega) (xw_CP_s c1 (by omega)) (xw_CP_s c2 (by omega))))⟩⟩
theorem yw_cp {post : SY → Prop} {f t : Nat} (hf : f < 12) (ht : t < 12) (hd : f ≠ t) (K : ∀ ky' ay', xw_CP ky (24 * f) (24 * t) 24 ky' → xw_CP ay (24 * f) (24 * t) 24 ay' → post (vd, vh, va, upd sz t (sz f), ky', ay', ps)) : wpY_copy post (vd, vh, va, sz, ky, ay, ps) (nI f) (nI t) := by
  unfold wpY_copy
  dsimp only
  rw [nI_clamp (show f < 2 ^ 31 by omega), nI_clamp (show t < 2 ^ 31 by omega)]
  exact ⟨vp_in_nI hf (by decide), vp_in_nI ht (by decide), nm_e ⟨25, yw_cp_14 hf ht hd K 24 0 ky ay rfl (xw_CP_0 _ _ _) (xw_CP_0 _ _ _)⟩⟩
theorem yw_axiom_y {post : Int32 → SY → Prop} {h na : Nat} {S T : Nat → tm_F} (h1 : 1 ≤ h) (hh : h ≤ 6) (hna : na < 6) (wS : ∀ s, s < h → tm_wf (S s)) (ST : yw_ST h S sz ky ay) (AX : yw_AX na T sz ky ay)
    (K : ∀ sz ky ay, yw_ST (h - 1) S sz ky ay → yw_AX (na + 1) (tm_ps T na (S (h - 1))) sz ky ay → post (nI (na + 1)) (vd, nI (h - 1), nI (na + 1), sz, ky, ay, ps)) : wpY_axiom post (vd, nI h, nI na, sz, ky, ay, ps) := by
  have e6 : (6 : Int32) + nI na = nI (6 + na) := nI_add 6 na
  unfold wpY_axiom
  dsimp only
  rw [xi_e1 h1, e6]
  refine pk_eq h 0 (fun z => absurd z (by omega)) (fun _ => pk_eq na 6 (fun z => absurd z (by omega)) (fun _ => yw_cp (by omega) (by omega) (by omega) (fun ky' ay' c1 c2 => nm_r (xi_e1 h1) (nm_r (nI_1 na) (K _ _ _ (fun s hs => yw_SL_n (ST s (by omega)) c1 c2 (wS s (by omega)).1 (by omega)) (fun j hj => ?_))))))
  unfold tm_ps
  by_cases z : j = na
  · rw [if_pos z, z]
    exact ⟨yw_SL_y (ST (h - 1) (by omega)) c1 c2 (wS (h - 1) (by omega)).1, wS (h - 1) (by omega)⟩
  · rw [if_neg z]
    have a := AX j (by omega)
    exact ⟨yw_SL_n a.1 c1 c2 a.2.1 (by omega), a.2⟩
theorem yw_axiom_n {post : Int32 → SY → Prop} {h na : Nat} (hh : h ≤ 6) (hna : na ≤ 6) (K1 : h = 0 → post (-1) (vd, nI h, nI na, sz, ky, ay, ps)) (K2 : h ≠ 0 → na = 6 → post (-2) (vd, nI h, nI na, sz, ky, ay, ps)) (hn : h = 0 ∨ na = 6) : wpY_axiom post (vd, nI h, nI na, sz, ky, ay, ps) := by
  unfold wpY_axiom
  dsimp only
  exact pk_eq h 0 K1 (fun z => pk_eq na 6 (fun q => K2 z q) (fun q => absurd q (by omega)))
theorem yw_rt_16 {post : Int32 → SY → Prop} {h na i : Nat} {S T : Nat → tm_F} (hh : h ≤ 6) (hna : na ≤ 6) (hn1 : 1 ≤ na) (wS : ∀ s, s < h → tm_wf (S s))
    (K : ∀ sz ky ay, yw_ST h S sz ky ay → yw_AX (na - 1) (tm_rt T i) sz ky ay → post (nI (na - 1)) (vd, vh, nI (na - 1), sz, ky, ay, ps)) :
    ∀ (r j : Nat) (sz ky ay : Nat → Int32), j + r = na - 1 → i ≤ j → yw_ST h S sz ky ay → (∀ t, t < j → yw_SL sz ky ay (6 + t) (tm_rt T i t) ∧ tm_wf (tm_rt T i t)) → (∀ t, j < t → t < na → yw_SL sz ky ay (6 + t) (T t) ∧ tm_wf (T t)) → wY_retract_16 post (r + 1) (nI j) vd vh (nI na) sz ky ay ps := by
  intro r
  induction r with
  | zero =>
    intro j sz ky ay h ij ST a1 a2
    have e : j = na - 1 := by omega
    rw [e] at a1
    rw [e]
    refine br_t ?_ (nm_r (xi_e1 hn1) (K sz ky ay ST a1))
    rw [xi_e1 hn1]
    exact nI_le (Nat.le_refl _) (by omega)
  | succ r ih =>
    intro j sz ky ay h ij ST a1 a2
    obtain ⟨q1, q2⟩ := a2 (j + 1) (by omega) (by omega)
    have q24 := q2.1
    have e7 : (7 : Int32) + nI j = nI (7 + j) := nI_add 7 j
    have e6 : (6 : Int32) + nI j = nI (6 + j) := nI_add 6 j
    rw [show 6 + (j + 1) = 7 + j by omega] at q1
    refine br_f ?_ ?_
    · rw [xi_e1 hn1]
      exact nI_ge (by omega) (by omega)
    rw [e7, e6]
    refine yw_cp (by omega) (by omega) (by omega) (fun ky' ay' c1 c2 => nm_r (nI_1 j) (ih (j + 1) _ _ _ (by omega) (by omega) (fun s hs => yw_SL_n (ST s hs) c1 c2 (wS s hs).1 (by omega)) (fun t ht => ?_) (fun t ht1 ht2 => ?_)))
    · by_cases z : t = j
      · subst z
        have er : tm_rt T i t = T (t + 1) := if_neg (by omega)
        rw [er]
        exact ⟨yw_SL_y q1 c1 c2 q24, q2⟩
      · obtain ⟨b1, b2⟩ := a1 t (by omega)
        exact ⟨yw_SL_n b1 c1 c2 b2.1 (by omega), b2⟩
    · obtain ⟨b1, b2⟩ := a2 t (by omega) ht2
      exact ⟨yw_SL_n b1 c1 c2 b2.1 (by omega), b2⟩
theorem yw_retract_y {post : Int32 → SY → Prop} {h na i : Nat} {S T : Nat → tm_F} (hh : h ≤ 6) (hna : na ≤ 6) (hi : i < na) (wS : ∀ s, s < h → tm_wf (S s)) (ST : yw_ST h S sz ky ay) (AX : yw_AX na T sz ky ay)
    (K : ∀ sz ky ay, yw_ST h S sz ky ay → yw_AX (na - 1) (tm_rt T i) sz ky ay → post (nI (na - 1)) (vd, vh, nI (na - 1), sz, ky, ay, ps)) : wpY_retract post (vd, vh, nI na, sz, ky, ay, ps) (nI i) := by
  refine br_f (nI_pos (by omega)) (br_t (nI_lt hi (by omega)) ⟨_, yw_rt_16 hh hna (by omega) wS K (na - 1 - i) i sz ky ay (by omega) (Nat.le_refl _) ST (fun t ht => ?_) (fun t _ ht => AX t ht)⟩)
  have er : tm_rt T i t = T t := if_pos ht
  rw [er]
  exact AX t (by omega)
theorem yw_retract_n {post : Int32 → SY → Prop} {na : Nat} {x : Int32} (h : x < 0 ∨ nI na ≤ x) (K : post (-1) (vd, vh, nI na, sz, ky, ay, ps)) : wpY_retract post (vd, vh, nI na, sz, ky, ay, ps) x :=
  br_c (fun _ => K) (fun z => br_f (Int32.not_lt.mpr (h.resolve_left z)) K)
end
end
section
/-! the relation: one abstract state (d elements, the stack S of height h, the axioms T, na of them) for both objects -/
def tm_XR (d h na : Nat) (S T : Nat → tm_F) : SX → Prop
  | (fh, fa, fe, fk, fs, fd, kd, ag, st, ln, al, mb, im, pr, rl, rc, tb, fr, hel) => fh = nI h ∧ fa = nI na ∧ fe = nI d ∧ xw_ST h S kd ag st ln ∧ xw_AX na T kd ag al ∧ xw_IM im ∧ xw_KN d na T fk mb
def tm_YR (d h na : Nat) (S T : Nat → tm_F) : SY → Prop
  | (vd, vh, va, sz, ky, ay, ps) => vd = nI d ∧ vh = nI h ∧ va = nI na ∧ yw_ST h S sz ky ay ∧ yw_AX na T sz ky ay
def tm_PF (d h na : Nat) (S : Nat → tm_F) : Prop := 1 ≤ d ∧ d ≤ 3 ∧ h ≤ 6 ∧ na ≤ 6 ∧ ∀ s, s < h → tm_wf (S s)
def i_Rel (k : Nat) (u : SX) (v : SY) : Prop := ∃ (d h na : Nat) (S T : Nat → tm_F), tm_PF d h na S ∧ tm_XR d h na S T u ∧ tm_YR d h na S T v
theorem zz_el {P : SX → SY → Prop} (H : ∀ (d h na : Nat) (S T : Nat → tm_F) (fk fs fd : Int32) (kd ag st ln al : Nat → Int32) (mb : Nat → Int64) (im : Nat → Int32) (pr rl rc tb fr hel : Nat → Int64) (sz ky ay ps : Nat → Int32), 1 ≤ d → d ≤ 3 → h ≤ 6 → na ≤ 6 → (∀ s, s < h → tm_wf (S s)) → xw_ST h S kd ag st ln → xw_AX na T kd ag al → xw_IM im → xw_KN d na T fk mb → yw_ST h S sz ky ay → yw_AX na T sz ky ay → P (nI h, nI na, nI d, fk, fs, fd, kd, ag, st, ln, al, mb, im, pr, rl, rc, tb, fr, hel) (nI d, nI h, nI na, sz, ky, ay, ps)) {k : Nat} {u : SX} {v : SY} (I : i_Rel k u v) : P u v := by
  obtain ⟨d, h, na, S, T, ⟨h1, h3, h6, n6, wS⟩, hx, hy⟩ := I
  obtain ⟨fh, fa, fe, fk, fs, fd, kd, ag, st, ln, al, mb, im, pr, rl, rc, tb, fr, hel⟩ := u
  obtain ⟨vd, vh, va, sz, ky, ay, ps⟩ := v
  obtain ⟨e1, e2, e3, ST, AX, IM, KN⟩ := hx
  obtain ⟨e4, e5, e6, yS, yA⟩ := hy
  subst e1 e2 e3 e4 e5 e6
  exact H d h na S T fk fs fd kd ag st ln al mb im pr rl rc tb fr hel sz ky ay ps h1 h3 h6 n6 wS ST AX IM KN yS yA
theorem zz_in {d h na : Nat} {S T : Nat → tm_F} {fk fs fd : Int32} {kd ag st ln al : Nat → Int32} {mb : Nat → Int64} {im : Nat → Int32} {pr rl rc tb fr hel : Nat → Int64} {sz ky ay ps : Nat → Int32} {k : Nat} (h1 : 1 ≤ d) (h3 : d ≤ 3) (h6 : h ≤ 6) (n6 : na ≤ 6) (wS : ∀ s, s < h → tm_wf (S s)) (ST : xw_ST h S kd ag st ln) (AX : xw_AX na T kd ag al) (IM : xw_IM im) (KN : xw_KN d na T fk mb) (yS : yw_ST h S sz ky ay) (yA : yw_AX na T sz ky ay) : i_Rel k (nI h, nI na, nI d, fk, fs, fd, kd, ag, st, ln, al, mb, im, pr, rl, rc, tb, fr, hel) (nI d, nI h, nI na, sz, ky, ay, ps) :=
  ⟨d, h, na, S, T, ⟨h1, h3, h6, n6, wS⟩, ⟨rfl, rfl, rfl, ST, AX, IM, KN⟩, ⟨rfl, rfl, rfl, yS, yA⟩⟩
theorem i_up {k : Nat} {u : SX} {v : SY} (h : i_Rel k u v) : i_Rel (k + 3) u v := h
theorem i_vc0 : wpX_init (fun u => wpY_init (fun v => i_Rel 0 u v)) :=
  xw_init (fun im IM => ⟨2, 0, 0, fun _ => tm_e0, fun _ => tm_e0, ⟨by decide, by decide, by decide, by decide, fun s hs => absurd hs (Nat.not_lt_zero s)⟩, ⟨rfl, rfl, rfl, ⟨fun _ => 0, rfl, fun s hs => absurd hs (Nat.not_lt_zero s), fun s hs => absurd hs (Nat.not_lt_zero s)⟩, fun j hj => absurd hj (Nat.not_lt_zero j), IM, fun z => absurd rfl z⟩, ⟨rfl, rfl, rfl, fun s hs => absurd hs (Nat.not_lt_zero s), fun j hj => absurd hj (Nat.not_lt_zero j)⟩⟩)
theorem i_vc_domain {k : Nat} {u : SX} {v : SY} (I : i_Rel k u v) (hk : k + 3 ≤ 1536) (v1 : Int32) : wpX_domain (fun r u' => wpY_domain (fun r' v' => r' = r ∧ i_Rel (k + 3) u' v') v v1) u v1 := by
  refine zz_el (P := fun u v => wpX_domain (fun r u' => wpY_domain (fun r' v' => r' = r ∧ i_Rel (k + 3) u' v') v v1) u v1) ?_ I
  intro d h na S T fk fs fd kd ag st ln al mb im pr rl rc tb fr hel sz ky ay ps h1 h3 h6 n6 wS ST AX IM KN yS yA
  refine br_c (fun q => br_t q ⟨rfl, zz_in h1 h3 h6 n6 wS ST AX IM KN yS yA⟩) (fun q => br_c (fun q3 => ?_) (fun q3 => br_f q (br_f q3 ⟨rfl, zz_in h1 h3 h6 n6 wS ST AX IM KN yS yA⟩)))
  have q0 : ¬ v1 < 0 := fun z => q (Int32.lt_trans z (by decide))
  obtain ⟨e, he, rfl⟩ := nI_of2 (M := 3) (n := 3) (by decide) q0 q3
  have he1 : 1 ≤ e := by
    rcases Nat.eq_zero_or_pos e with z | z
    · subst z; exact absurd (by decide) q
    · exact z
  refine xw_int he1 he (br_f q (br_t q3 (yw_int he1 he ⟨rfl, zz_in he1 he h6 n6 wS ST AX IM (fun z => absurd rfl z) yS yA⟩)))
theorem i_vc_token {k : Nat} {u : SX} {v : SY} (I : i_Rel k u v) (hk : k + 3 ≤ 1536) (v1 : Int32) (v2 : Int32) : wpX_token (fun r u' => wpY_token (fun r' v' => r' = r ∧ i_Rel (k + 3) u' v') v v1 v2) u v1 v2 := by
  refine zz_el (P := fun u v => wpX_token (fun r u' => wpY_token (fun r' v' => r' = r ∧ i_Rel (k + 3) u' v') v v1 v2) u v1 v2) ?_ I
  intro d h na S T fk fs fd kd ag st ln al mb im pr rl rc tb fr hel sz ky ay ps h1 h3 h6 n6 wS ST AX IM KN yS yA
  by_cases tk : tm_tk v1 v2
  · have tk2 := tk
    obtain ⟨kk, hkk, rfl, _⟩ := tk2
    refine xw_token_y h6 hkk tk wS ST AX n6 (fun q => ?_) (fun q1 q2 => ?_) (fun q1 q2 q3 => ?_) (fun q1 q2 q3 kd ag st ln ST AX => ?_)
    · exact yw_token_y h6 hkk tk wS yS yA n6 (fun _ => ⟨rfl, zz_in h1 h3 h6 n6 wS ST AX IM KN yS yA⟩) (fun z1 z2 => by omega) (fun z1 _ _ => by omega) (fun z1 _ _ => by omega)
    · exact yw_token_y h6 hkk tk wS yS yA n6 (fun z => by omega) (fun z1 z2 => ⟨rfl, zz_in h1 h3 h6 n6 wS ST AX IM KN yS yA⟩) (fun _ z1 _ => by omega) (fun _ z1 _ => by omega)
    · exact yw_token_y h6 hkk tk wS yS yA n6 (fun z => by omega) (fun z1 z2 => by omega) (fun _ _ _ => ⟨rfl, zz_in h1 h3 h6 n6 wS ST AX IM KN yS yA⟩) (fun _ _ z1 => by omega)
    · refine yw_token_y h6 hkk tk wS yS yA n6 (fun z => by omega) (fun z1 z2 => by omega) (fun _ _ z1 => by omega) (fun _ _ _ sz ky ay yS yA => ⟨rfl, zz_in h1 h3 ?_ n6 (fun s hs => ?_) ST AX IM KN yS yA⟩)
      · have := tm_tn_le kk
        omega
      · unfold tm_ps
        by_cases z : s = h - tm_tn kk
        · rw [if_pos z]
          exact tm_wf_sn (tm_pw_bs wS q1 (tm_tn_le kk)) hkk tk q3
        · rw [if_neg z]
          exact wS s (by omega)
  · exact xw_token_n tk (yw_token_n tk ⟨rfl, zz_in h1 h3 h6 n6 wS ST AX IM KN yS yA⟩)
theorem i_vc_drop {k : Nat} {u : SX} {v : SY} (I : i_Rel k u v) (hk : k + 3 ≤ 1536) : wpX_drop (fun r u' => wpY_drop (fun r' v' => r' = r ∧ i_Rel (k + 3) u' v') v) u := by
  refine zz_el (P := fun u v => wpX_drop (fun r u' => wpY_drop (fun r' v' => r' = r ∧ i_Rel (k + 3) u' v') v) u) ?_ I
  intro d h na S T fk fs fd kd ag st ln al mb im pr rl rc tb fr hel sz ky ay ps h1 h3 h6 n6 wS ST AX IM KN yS yA
  refine pk_eq h 0 (fun z => ?_) (fun z => nm_r (xi_e1 (by omega)) ?_)
  · subst z
    exact br_t rfl ⟨rfl, zz_in h1 h3 h6 n6 wS ST AX IM KN yS yA⟩
  · refine pk_eq h 0 (fun y => absurd y z) (fun _ => nm_r (xi_e1 (by omega)) ⟨rfl, zz_in h1 h3 (by omega) n6 (fun s hs => wS s (by omega)) (xw_ST_drop ST (by omega)) AX IM KN (fun s hs => yS s (by omega)) yA⟩)
theorem i_vc_axiom {k : Nat} {u : SX} {v : SY} (I : i_Rel k u v) (hk : k + 3 ≤ 1536) : wpX_axiom (fun r u' => wpY_axiom (fun r' v' => r' = r ∧ i_Rel (k + 3) u' v') v) u := by
  refine zz_el (P := fun u v => wpX_axiom (fun r u' => wpY_axiom (fun r' v' => r' = r ∧ i_Rel (k + 3) u' v') v) u) ?_ I
  intro d h na S T fk fs fd kd ag st ln al mb im pr rl rc tb fr hel sz ky ay ps h1 h3 h6 n6 wS ST AX IM KN yS yA
  by_cases hn : h = 0 ∨ na = 6
  · refine xw_axiom_n h6 n6 (fun z => ?_) (fun z1 z2 => ?_) hn
    · exact yw_axiom_n h6 n6 (fun _ => ⟨rfl, zz_in h1 h3 h6 n6 wS ST AX IM KN yS yA⟩) (fun y _ => absurd z y) hn
    · exact yw_axiom_n h6 n6 (fun y => absurd y z1) (fun _ _ => ⟨rfl, zz_in h1 h3 h6 n6 wS ST AX IM KN yS yA⟩) hn
  · refine xw_axiom_y (by omega) h6 (by omega) wS ST AX (fun kd ag al ST AX => yw_axiom_y (by omega) h6 (by omega) wS yS yA (fun sz ky ay yS yA => ⟨rfl, zz_in h1 h3 (by omega) (by omega) (fun s hs => wS s (by omega)) ST AX IM (fun z => absurd rfl z) yS yA⟩))
theorem i_vc_retract {k : Nat} {u : SX} {v : SY} (I : i_Rel k u v) (hk : k + 3 ≤ 1536) (v1 : Int32) : wpX_retract (fun r u' => wpY_retract (fun r' v' => r' = r ∧ i_Rel (k + 3) u' v') v v1) u v1 := by
  refine zz_el (P := fun u v => wpX_retract (fun r u' => wpY_retract (fun r' v' => r' = r ∧ i_Rel (k + 3) u' v') v v1) u v1) ?_ I
  intro d h na S T fk fs fd kd ag st ln al mb im pr rl rc tb fr hel sz ky ay ps h1 h3 h6 n6 wS ST AX IM KN yS yA
  rcases pk_ix v1 (n := na) (by omega) with z | z | ⟨i, hi, rfl⟩
  · exact xw_retract_n (Or.inl z) (yw_retract_n (Or.inl z) ⟨rfl, zz_in h1 h3 h6 n6 wS ST AX IM KN yS yA⟩)
  · exact xw_retract_n (Or.inr z) (yw_retract_n (Or.inr z) ⟨rfl, zz_in h1 h3 h6 n6 wS ST AX IM KN yS yA⟩)
  · exact xw_retract_y h6 n6 hi wS ST AX (fun kd ag al ST AX => yw_retract_y h6 n6 hi wS yS yA (fun sz ky ay yS yA => ⟨rfl, zz_in h1 h3 h6 (by omega) wS ST AX IM (fun z => absurd rfl z) yS yA⟩))
end
section
/-! the owed statements: what only asks -/
theorem i_vc_models {k : Nat} {u : SX} {v : SY} (I : i_Rel k u v) (hk : k + 3 ≤ 1536) : wpX_models (fun r u' => wpY_models (fun r' v' => r' = r ∧ i_Rel (k + 3) u' v') v) u := by
  refine zz_el (P := fun u v => wpX_models (fun r u' => wpY_models (fun r' v' => r' = r ∧ i_Rel (k + 3) u' v') v) u) ?_ I
  intro d h na S T fk fs fd kd ag st ln al mb im pr rl rc tb fr hel sz ky ay ps h1 h3 h6 n6 wS ST AX IM KN yS yA
  exact xw_models h1 h3 n6 AX KN (fun fk mb fs fd pr rl rc tb fr KN => yw_models h1 h3 n6 yA (fun ps => ⟨rfl, zz_in h1 h3 h6 n6 wS ST AX IM KN yS yA⟩))
theorem i_vc_next {k : Nat} {u : SX} {v : SY} (I : i_Rel k u v) (hk : k + 3 ≤ 1536) (v1 : Int32) : wpX_next (fun r u' => wpY_next (fun r' v' => r' = r ∧ i_Rel (k + 3) u' v') v v1) u v1 := by
  refine zz_el (P := fun u v => wpX_next (fun r u' => wpY_next (fun r' v' => r' = r ∧ i_Rel (k + 3) u' v') v v1) u v1) ?_ I
  intro d h na S T fk fs fd kd ag st ln al mb im pr rl rc tb fr hel sz ky ay ps h1 h3 h6 n6 wS ST AX IM KN yS yA
  exact xw_next h1 h3 n6 AX KN (fun fk mb fs fd pr rl rc tb fr KN => yw_next h1 h3 n6 yA (fun ps => ⟨rfl, zz_in h1 h3 h6 n6 wS ST AX IM KN yS yA⟩))
theorem i_vc_isModel {k : Nat} {u : SX} {v : SY} (I : i_Rel k u v) (hk : k + 3 ≤ 1536) (v1 : Int32) : wpX_isModel (fun r u' => wpY_isModel (fun r' v' => r' = r ∧ i_Rel (k + 3) u' v') v v1) u v1 := by
  refine zz_el (P := fun u v => wpX_isModel (fun r u' => wpY_isModel (fun r' v' => r' = r ∧ i_Rel (k + 3) u' v') v v1) u v1) ?_ I
  intro d h na S T fk fs fd kd ag st ln al mb im pr rl rc tb fr hel sz ky ay ps h1 h3 h6 n6 wS ST AX IM KN yS yA
  rcases pk_ix v1 (tm_NN_b h3) with z | z | ⟨m, hm, rfl⟩
  · exact xw_isModel_n h1 h3 (Or.inl z) (yw_isModel_n h1 h3 (Or.inl z) ⟨rfl, zz_in h1 h3 h6 n6 wS ST AX IM KN yS yA⟩)
  · exact xw_isModel_n h1 h3 (Or.inr z) (yw_isModel_n h1 h3 (Or.inr z) ⟨rfl, zz_in h1 h3 h6 n6 wS ST AX IM KN yS yA⟩)
  · exact xw_isModel_y h1 h3 n6 hm AX KN (fun fk mb fs fd pr rl rc tb fr KN => yw_isModel_y h1 h3 n6 hm yA (fun ps => ⟨rfl, zz_in h1 h3 h6 n6 wS ST AX IM KN yS yA⟩))
theorem i_vc_shapes {k : Nat} {u : SX} {v : SY} (I : i_Rel k u v) (hk : k + 3 ≤ 1536) : wpX_shapes (fun r u' => wpY_shapes (fun r' v' => r' = r ∧ i_Rel (k + 3) u' v') v) u := by
  refine zz_el (P := fun u v => wpX_shapes (fun r u' => wpY_shapes (fun r' v' => r' = r ∧ i_Rel (k + 3) u' v') v) u) ?_ I
  intro d h na S T fk fs fd kd ag st ln al mb im pr rl rc tb fr hel sz ky ay ps h1 h3 h6 n6 wS ST AX IM KN yS yA
  exact xw_shapes h1 h3 n6 IM AX KN (fun fk mb fs fd pr rl rc tb fr KN => yw_shapes h1 h3 n6 yA (fun ps => ⟨rfl, zz_in h1 h3 h6 n6 wS ST AX IM KN yS yA⟩))
theorem i_vc_sameShape {k : Nat} {u : SX} {v : SY} (I : i_Rel k u v) (hk : k + 3 ≤ 1536) (v1 : Int32) (v2 : Int32) : wpX_sameShape (fun r => wpY_sameShape (fun r' => r' = r ∧ i_Rel (k + 3) u v) v v1 v2) u v1 v2 := by
  refine zz_el (P := fun u v => wpX_sameShape (fun r => wpY_sameShape (fun r' => r' = r ∧ i_Rel (k + 3) u v) v v1 v2) u v1 v2) ?_ I
  intro d h na S T fk fs fd kd ag st ln al mb im pr rl rc tb fr hel sz ky ay ps h1 h3 h6 n6 wS ST AX IM KN yS yA
  by_cases hb : (v1 < 0 ∨ nI (tm_NN d) ≤ v1) ∨ (v2 < 0 ∨ nI (tm_NN d) ≤ v2)
  · exact xw_sameShape_n h1 h3 hb (yw_sameShape_n h1 h3 hb ⟨rfl, zz_in h1 h3 h6 n6 wS ST AX IM KN yS yA⟩)
  · rcases pk_ix v1 (tm_NN_b h3) with z | z | ⟨m, hm, rfl⟩
    · exact absurd (Or.inl (Or.inl z)) hb
    · exact absurd (Or.inl (Or.inr z)) hb
    · rcases pk_ix v2 (tm_NN_b h3) with z | z | ⟨n, hn, rfl⟩
      · exact absurd (Or.inr (Or.inl z)) hb
      · exact absurd (Or.inr (Or.inr z)) hb
      · exact xw_sameShape_y h1 h3 hm hn IM (yw_sameShape_y h1 h3 hm hn ⟨rfl, zz_in h1 h3 h6 n6 wS ST AX IM KN yS yA⟩)
theorem i_vc_symmetries {k : Nat} {u : SX} {v : SY} (I : i_Rel k u v) (hk : k + 3 ≤ 1536) (v1 : Int32) : wpX_symmetries (fun r => wpY_symmetries (fun r' => r' = r ∧ i_Rel (k + 3) u v) v v1) u v1 := by
  refine zz_el (P := fun u v => wpX_symmetries (fun r => wpY_symmetries (fun r' => r' = r ∧ i_Rel (k + 3) u v) v v1) u v1) ?_ I
  intro d h na S T fk fs fd kd ag st ln al mb im pr rl rc tb fr hel sz ky ay ps h1 h3 h6 n6 wS ST AX IM KN yS yA
  rcases pk_ix v1 (tm_NN_b h3) with z | z | ⟨m, hm, rfl⟩
  · exact xw_sym_n h1 h3 (Or.inl z) (yw_sym_n h1 h3 (Or.inl z) ⟨rfl, zz_in h1 h3 h6 n6 wS ST AX IM KN yS yA⟩)
  · exact xw_sym_n h1 h3 (Or.inr z) (yw_sym_n h1 h3 (Or.inr z) ⟨rfl, zz_in h1 h3 h6 n6 wS ST AX IM KN yS yA⟩)
  · exact xw_sym_y h1 h3 hm IM (yw_sym_y h1 h3 hm ⟨rfl, zz_in h1 h3 h6 n6 wS ST AX IM KN yS yA⟩)
theorem i_vc_forced {k : Nat} {u : SX} {v : SY} (I : i_Rel k u v) (hk : k + 3 ≤ 1536) (v1 : Int32) : wpX_forced (fun r u' => wpY_forced (fun r' v' => r' = r ∧ i_Rel (k + 3) u' v') v v1) u v1 := by
  refine zz_el (P := fun u v => wpX_forced (fun r u' => wpY_forced (fun r' v' => r' = r ∧ i_Rel (k + 3) u' v') v v1) u v1) ?_ I
  intro d h na S T fk fs fd kd ag st ln al mb im pr rl rc tb fr hel sz ky ay ps h1 h3 h6 n6 wS ST AX IM KN yS yA
  have h12 : d + d * d ≤ 12 := by
    refine tm_d3 (P := fun d => d + d * d ≤ 12) h1 h3 ?_ ?_ ?_ <;> decide
  rcases pk_ix v1 (n := d + d * d) (by omega) with z | z | ⟨b, hb, rfl⟩
  · exact xw_forced_n (Or.inl z) (yw_forced_n (Or.inl z) ⟨rfl, zz_in h1 h3 h6 n6 wS ST AX IM KN yS yA⟩)
  · exact xw_forced_n (Or.inr z) (yw_forced_n (Or.inr z) ⟨rfl, zz_in h1 h3 h6 n6 wS ST AX IM KN yS yA⟩)
  · exact xw_forced_y h1 h3 n6 hb AX KN (fun fk mb fs fd pr rl rc tb fr KN => yw_forced_y h1 h3 n6 hb yA (fun ps => ⟨rfl, zz_in h1 h3 h6 n6 wS ST AX IM KN yS yA⟩))
theorem i_vc_holds {k : Nat} {u : SX} {v : SY} (I : i_Rel k u v) (hk : k + 3 ≤ 1536) (v1 : Int32) (v2 : Int32) : wpX_holds (fun r u' => wpY_holds (fun r' v' => r' = r ∧ i_Rel (k + 3) u' v') v v1 v2) u v1 v2 := by
  refine zz_el (P := fun u v => wpX_holds (fun r u' => wpY_holds (fun r' v' => r' = r ∧ i_Rel (k + 3) u' v') v v1 v2) u v1 v2) ?_ I
  intro d h na S T fk fs fd kd ag st ln al mb im pr rl rc tb fr hel sz ky ay ps h1 h3 h6 n6 wS ST AX IM KN yS yA
  by_cases hb : h = 0 ∨ (v1 < 0 ∨ nI (tm_NN d) ≤ v1) ∨ (v2 < 0 ∨ nI 27 ≤ v2)
  · exact xw_holds_n h1 h3 h6 hb (yw_holds_n h1 h3 h6 hb ⟨rfl, zz_in h1 h3 h6 n6 wS ST AX IM KN yS yA⟩)
  · rcases pk_ix v1 (tm_NN_b h3) with z | z | ⟨m, hm, rfl⟩
    · exact absurd (Or.inr (Or.inl (Or.inl z))) hb
    · exact absurd (Or.inr (Or.inl (Or.inr z))) hb
    · rcases pk_ix v2 (n := 27) (by decide) with z | z | ⟨l, hl, rfl⟩
      · exact absurd (Or.inr (Or.inr (Or.inl z))) hb
      · exact absurd (Or.inr (Or.inr (Or.inr z))) hb
      · have g1 : 1 ≤ h := by
          rcases Nat.eq_zero_or_pos h with z | z
          · exact absurd (Or.inl z) hb
          · exact z
        have wf := wS (h - 1) (by omega)
        have tp := xw_ST_TP h6 wS ST (s := h - 1) (by omega)
        have sl := yS (h - 1) (by omega)
        refine xw_holds_y h1 h3 g1 h6 wf tp hm hl (fun z fs fd pr rl rc tb fr => ?_) (fun z fs fd pr rl rc tb fr => ?_)
        · refine yw_holds_y h1 h3 g1 h6 wf sl hm hl (fun _ ps => ⟨rfl, zz_in h1 h3 h6 n6 wS ST AX IM KN yS yA⟩) (fun y => ?_)
          rw [z] at y
          exact nomatch y
        · refine yw_holds_y h1 h3 g1 h6 wf sl hm hl (fun y ps => ?_) (fun _ => ⟨rfl, zz_in h1 h3 h6 n6 wS ST AX IM KN yS yA⟩)
          rw [z] at y
          exact nomatch y
theorem i_vc_lists {k : Nat} {u : SX} {v : SY} (I : i_Rel k u v) (hk : k + 3 ≤ 1536) (v1 : Int32) : wpX_lists (fun r u' => wpY_lists (fun r' v' => r' = r ∧ i_Rel (k + 3) u' v') v v1) u v1 := by
  refine zz_el (P := fun u v => wpX_lists (fun r u' => wpY_lists (fun r' v' => r' = r ∧ i_Rel (k + 3) u' v') v v1) u v1) ?_ I
  intro d h na S T fk fs fd kd ag st ln al mb im pr rl rc tb fr hel sz ky ay ps h1 h3 h6 n6 wS ST AX IM KN yS yA
  by_cases hb : h = 0 ∨ (v1 < 0 ∨ nI (tm_NN d) ≤ v1)
  · exact xw_lists_n h1 h3 h6 hb (yw_lists_n h1 h3 h6 hb ⟨rfl, zz_in h1 h3 h6 n6 wS ST AX IM KN yS yA⟩)
  · rcases pk_ix v1 (tm_NN_b h3) with z | z | ⟨m, hm, rfl⟩
    · exact absurd (Or.inr (Or.inl z)) hb
    · exact absurd (Or.inr (Or.inr z)) hb
    · have g1 : 1 ≤ h := by
        rcases Nat.eq_zero_or_pos h with z | z
        · exact absurd (Or.inl z) hb
        · exact z
      have wf := wS (h - 1) (by omega)
      have tp := xw_ST_TP h6 wS ST (s := h - 1) (by omega)
      have sl := yS (h - 1) (by omega)
      exact xw_lists_y h1 h3 g1 h6 wf tp hm (fun fs fd pr rl rc tb fr => yw_lists_y h1 h3 g1 h6 wf sl hm (fun ps => ⟨rfl, zz_in h1 h3 h6 n6 wS ST AX IM KN yS yA⟩))
end
section
/-! the owed statements: the rest -/
theorem i_vc_follows {k : Nat} {u : SX} {v : SY} (I : i_Rel k u v) (hk : k + 3 ≤ 1536) : wpX_follows (fun r u' => wpY_follows (fun r' v' => r' = r ∧ i_Rel (k + 3) u' v') v) u := by
  refine zz_el (P := fun u v => wpX_follows (fun r u' => wpY_follows (fun r' v' => r' = r ∧ i_Rel (k + 3) u' v') v) u) ?_ I
  intro d h na S T fk fs fd kd ag st ln al mb im pr rl rc tb fr hel sz ky ay ps h1 h3 h6 n6 wS ST AX IM KN yS yA
  by_cases hb : h = 0
  · subst hb
    exact br_t rfl (br_t rfl ⟨rfl, zz_in h1 h3 h6 n6 wS ST AX IM KN yS yA⟩)
  · have wf := wS (h - 1) (by omega)
    have tp := xw_ST_TP h6 wS ST (s := h - 1) (by omega)
    have sl := yS (h - 1) (by omega)
    exact xw_follows h1 h3 n6 (by omega) h6 wf tp AX KN (fun fk mb fs fd pr rl rc tb fr KN => yw_follows h1 h3 n6 (by omega) h6 wf sl yA (fun ps => ⟨rfl, zz_in h1 h3 h6 n6 wS ST AX IM KN yS yA⟩))
theorem i_vc_agreeing {k : Nat} {u : SX} {v : SY} (I : i_Rel k u v) (hk : k + 3 ≤ 1536) : wpX_agreeing (fun r u' => wpY_agreeing (fun r' v' => r' = r ∧ i_Rel (k + 3) u' v') v) u := by
  refine zz_el (P := fun u v => wpX_agreeing (fun r u' => wpY_agreeing (fun r' v' => r' = r ∧ i_Rel (k + 3) u' v') v) u) ?_ I
  intro d h na S T fk fs fd kd ag st ln al mb im pr rl rc tb fr hel sz ky ay ps h1 h3 h6 n6 wS ST AX IM KN yS yA
  by_cases hb : h = 0
  · subst hb
    exact br_t rfl (br_t rfl ⟨rfl, zz_in h1 h3 h6 n6 wS ST AX IM KN yS yA⟩)
  · have wf := wS (h - 1) (by omega)
    have tp := xw_ST_TP h6 wS ST (s := h - 1) (by omega)
    have sl := yS (h - 1) (by omega)
    exact xw_agreeing h1 h3 n6 (by omega) h6 wf tp AX KN (fun fk mb fs fd pr rl rc tb fr KN => yw_agreeing h1 h3 n6 (by omega) h6 wf sl yA (fun ps => ⟨rfl, zz_in h1 h3 h6 n6 wS ST AX IM KN yS yA⟩))
theorem i_vc_alike {k : Nat} {u : SX} {v : SY} (I : i_Rel k u v) (hk : k + 3 ≤ 1536) : wpX_alike (fun r u' => wpY_alike (fun r' v' => r' = r ∧ i_Rel (k + 3) u' v') v) u := by
  refine zz_el (P := fun u v => wpX_alike (fun r u' => wpY_alike (fun r' v' => r' = r ∧ i_Rel (k + 3) u' v') v) u) ?_ I
  intro d h na S T fk fs fd kd ag st ln al mb im pr rl rc tb fr hel sz ky ay ps h1 h3 h6 n6 wS ST AX IM KN yS yA
  by_cases hb : h < 2
  · exact xw_alike_n hb (yw_alike_n hb ⟨rfl, zz_in h1 h3 h6 n6 wS ST AX IM KN yS yA⟩)
  · have wf := wS (h - 1) (by omega)
    have wg := wS (h - 2) (by omega)
    have tp := xw_ST_TP h6 wS ST (s := h - 1) (by omega)
    have tg := xw_ST_TP h6 wS ST (s := h - 2) (by omega)
    have sl := yS (h - 1) (by omega)
    have sg := yS (h - 2) (by omega)
    exact xw_alike h1 h3 n6 (by omega) h6 wf wg tp tg AX KN (fun fk mb fs fd pr rl rc tb fr hel KN => yw_alike h1 h3 n6 (by omega) h6 wf wg sl sg yA (fun ps => ⟨rfl, zz_in h1 h3 h6 n6 wS ST AX IM KN yS yA⟩))
theorem i_vc_independent {k : Nat} {u : SX} {v : SY} (I : i_Rel k u v) (hk : k + 3 ≤ 1536) (v1 : Int32) : wpX_independent (fun r u' => wpY_independent (fun r' v' => r' = r ∧ i_Rel (k + 3) u' v') v v1) u v1 := by
  refine zz_el (P := fun u v => wpX_independent (fun r u' => wpY_independent (fun r' v' => r' = r ∧ i_Rel (k + 3) u' v') v v1) u v1) ?_ I
  intro d h na S T fk fs fd kd ag st ln al mb im pr rl rc tb fr hel sz ky ay ps h1 h3 h6 n6 wS ST AX IM KN yS yA
  rcases pk_ix v1 (n := na) (by omega) with z | z | ⟨j, hj, rfl⟩
  · exact xw_indep_n (Or.inl z) (yw_indep_n (Or.inl z) ⟨rfl, zz_in h1 h3 h6 n6 wS ST AX IM KN yS yA⟩)
  · exact xw_indep_n (Or.inr z) (yw_indep_n (Or.inr z) ⟨rfl, zz_in h1 h3 h6 n6 wS ST AX IM KN yS yA⟩)
  · exact xw_indep_y h1 h3 n6 hj AX (fun fs fd pr rl rc tb fr => yw_indep_y h1 h3 n6 hj yA (fun ps => ⟨rfl, zz_in h1 h3 h6 n6 wS ST AX IM KN yS yA⟩))
theorem i_vc_smallest {k : Nat} {u : SX} {v : SY} (I : i_Rel k u v) (hk : k + 3 ≤ 1536) : wpX_smallest (fun r u' => wpY_smallest (fun r' v' => r' = r ∧ i_Rel (k + 3) u' v') v) u := by
  refine zz_el (P := fun u v => wpX_smallest (fun r u' => wpY_smallest (fun r' v' => r' = r ∧ i_Rel (k + 3) u' v') v) u) ?_ I
  intro d h na S T fk fs fd kd ag st ln al mb im pr rl rc tb fr hel sz ky ay ps h1 h3 h6 n6 wS ST AX IM KN yS yA
  exact xw_smallest n6 AX (fun fs fd pr rl rc tb fr => yw_smallest n6 yA (fun ps => ⟨rfl, zz_in h1 h3 h6 n6 wS ST AX IM KN yS yA⟩))
end
