section
theorem pk_us {f : Nat → Int32} {k : Nat} {x : Int32} : upd f k x k = x := if_pos rfl
theorem pk_un {f : Nat → Int32} {k j : Nat} {x : Int32} (h : j ≠ k) : upd f k x j = f j := if_neg h
theorem pk_uLs {f : Nat → Int64} {k : Nat} {x : Int64} : vp_updL f k x k = x := if_pos rfl
theorem pk_uLn {f : Nat → Int64} {k j : Nat} {x : Int64} (h : j ≠ k) : vp_updL f k x j = f j := if_neg h
theorem pk_sub {a b : Nat} (h : b ≤ a) : nI a - nI b = nI (a - b) := by
  obtain ⟨c, rfl⟩ : ∃ c, a = c + b := ⟨a - b, by omega⟩
  rw [← nI_add, Int32.add_sub_cancel, Nat.add_sub_cancel]
theorem pk_m1 (n : Nat) : nI (n + 1) + (-1) = nI n := by
  rw [← nI_1, Int32.add_assoc, show (1 : Int32) + (-1) = 0 from rfl, Int32.add_zero]
theorem pk_mul (a b : Nat) : nI a * nI b = nI (a * b) := (Int32.ofNat_mul a b).symm
theorem pk_div {a d : Nat} (ha : a < 2 ^ 31) (h0 : 0 < d) (hd : d < 2 ^ 31) : nI a / nI d = nI (a / d) := by
  apply Int32.toInt_inj.mp
  rw [lg_idiv_nonneg (by rw [nI_toInt ha]; omega) (by rw [nI_toInt hd]; omega), nI_toInt ha, nI_toInt hd, nI_toInt (Nat.lt_of_le_of_lt (Nat.div_le_self a d) ha)]
  first | rfl | exact (Int.natCast_ediv _ _).symm
theorem pk_rem {a d : Nat} (ha : a < 2 ^ 31) (h0 : 0 < d) (hd : d < 2 ^ 31) : nI a - nI a / nI d * nI d = nI (a % d) := by
  rw [pk_div ha h0 hd, pk_mul, pk_sub (Nat.div_mul_le_self a d)]
  exact congrArg nI (by have := Nat.div_add_mod' a d; omega)
theorem pk_sub_toInt {a b : Nat} (ha : a < 2 ^ 30) (hb : b < 2 ^ 30) : (nI a - nI b).toInt = (a : Int) - b := by
  rw [Int32.toInt_sub, nI_toInt (by omega), nI_toInt (by omega)]
  exact Int.bmod_eq_of_le (by omega) (by omega)
theorem pk_sneg {a b : Nat} (hb : b < 2 ^ 30) (h : a < b) : nI a - nI b < 0 := by
  rw [Int32.lt_iff_toInt_lt, pk_sub_toInt (by omega) hb, show (0 : Int32).toInt = 0 from by decide]
  omega
theorem pk_ix (x : Int32) {n : Nat} (hn : n < 2 ^ 31) : x < 0 ∨ nI n ≤ x ∨ ∃ j : Nat, j < n ∧ x = nI j := by
  by_cases h : x < 0
  · exact Or.inl h
  · obtain ⟨j, hj, rfl⟩ := nI_of h
    by_cases h2 : j < n
    · exact Or.inr (Or.inr ⟨j, h2, rfl⟩)
    · exact Or.inr (Or.inl (nI_le (by omega) hj))
theorem pk_le {x y : Int32} {A B : Prop} (a b : Nat) (f : a ≤ b → A) (g : b < a → B) (hx : x = nI a := by rfl) (hy : y = nI b := by rfl) (ha : a < 2 ^ 31 := by omega) (hb : b < 2 ^ 31 := by omega) : (x ≤ y → A) ∧ (¬ x ≤ y → B) := by
  subst hx hy
  rw [nI_leI ha hb]
  exact ⟨f, fun z => g (by omega)⟩
theorem pk_lt {x y : Int32} {A B : Prop} (a b : Nat) (f : a < b → A) (g : b ≤ a → B) (hx : x = nI a := by rfl) (hy : y = nI b := by rfl) (ha : a < 2 ^ 31 := by omega) (hb : b < 2 ^ 31 := by omega) : (x < y → A) ∧ (¬ x < y → B) := by
  subst hx hy
  rw [nI_ltI ha hb]
  exact ⟨f, fun z => g (by omega)⟩
theorem pk_eq {x y : Int32} {A B : Prop} (a b : Nat) (f : a = b → A) (g : a ≠ b → B) (hx : x = nI a := by rfl) (hy : y = nI b := by rfl) (ha : a < 2 ^ 31 := by omega) (hb : b < 2 ^ 31 := by omega) : (x = y → A) ∧ (¬ x = y → B) := by
  subst hx hy
  rw [nI_eq ha hb]
  exact ⟨f, g⟩
theorem pk_in {x : Int32} (n N : Nat) (h : n < N) (hx : x = nI n := by rfl) (hN : N < 2 ^ 31 := by omega) : vp_in x N := by
  subst hx
  exact vp_in_nI h hN
theorem pk_cl {x : Int32} (n : Nat) (hx : x = nI n := by rfl) (h : n < 2 ^ 31 := by omega) : x.toNatClampNeg = n := by
  subst hx
  exact nI_clamp h
theorem pk_tn {n : Nat} (h : n < 2 ^ 32) : (nI n).toBitVec.toNat = n := Nat.mod_eq_of_lt h
theorem pk_and (x : Int32) {m : Int32} (k : Nat) (hm : m.toBitVec.toNat = 2 ^ k - 1) : x &&& m = nI (x.toBitVec.toNat % 2 ^ k) := by
  apply Int32.toBitVec_inj.mp
  apply BitVec.eq_of_toNat_eq
  rw [Int32.toBitVec_and, BitVec.toNat_and, hm, Nat.and_two_pow_sub_one_eq_mod]
  show _ = (BitVec.ofNat 32 _).toNat
  rw [BitVec.toNat_ofNat]
  exact (Nat.mod_eq_of_lt (Nat.lt_of_le_of_lt (Nat.mod_le _ _) x.toBitVec.isLt)).symm
theorem pk_andN {n : Nat} (h : n < 2 ^ 32) {m : Int32} (k : Nat) (hm : m.toBitVec.toNat = 2 ^ k - 1) : nI n &&& m = nI (n % 2 ^ k) := by
  rw [pk_and _ k hm, pk_tn h]
theorem pk_andE (x : Int32) {m : Int32} (k : Nat) (hm : m.toBitVec.toNat = 2 ^ k - 1) : ∃ j : Nat, j < 2 ^ k ∧ x &&& m = nI j := ⟨_, Nat.mod_lt _ (Nat.two_pow_pos k), pk_and x k hm⟩
theorem pk_andIn (x : Int32) {m : Int32} (k : Nat) (hm : m.toBitVec.toNat = 2 ^ k - 1) (hk : k ≤ 30) : vp_in (x &&& m) (2 ^ k) := by
  obtain ⟨j, hj, e⟩ := pk_andE x k hm
  rw [e]
  exact vp_in_nI hj (Nat.lt_of_le_of_lt (Nat.pow_le_pow_right (by decide) hk) (by decide))
theorem pk_shl (a s : Int32) (k : Nat) (hs : (s.toBitVec.smod 32).toNat = k) : (a <<< s).toBitVec.toNat = a.toBitVec.toNat * 2 ^ k % 2 ^ 32 := by
  show (a.toBitVec <<< (s.toBitVec.smod 32).toNat).toNat = _
  rw [hs, BitVec.toNat_shiftLeft, Nat.shiftLeft_eq]
theorem pk_shlN {n : Nat} (s : Int32) (k : Nat) (hs : (s.toBitVec.smod 32).toNat = k) (h : n * 2 ^ k < 2 ^ 32) : nI n <<< s = nI (n * 2 ^ k) := by
  apply Int32.toBitVec_inj.mp
  apply BitVec.eq_of_toNat_eq
  have hn : n < 2 ^ 32 := Nat.lt_of_le_of_lt (Nat.le_mul_of_pos_right n (Nat.two_pow_pos k)) h
  rw [pk_shl _ _ k hs, pk_tn hn, pk_tn h, Nat.mod_eq_of_lt h]
theorem pk_shr (a s : Int32) (k : Nat) (hs : (s.toBitVec.smod 32).toNat = k) : (a >>> s).toInt = a.toInt >>> k := by
  show (a.toBitVec.sshiftRight (s.toBitVec.smod 32).toNat).toInt = _
  rw [hs, BitVec.toInt_sshiftRight]
  rfl
theorem pk_shrN {n : Nat} (h : n < 2 ^ 31) (s : Int32) (k : Nat) (hs : (s.toBitVec.smod 32).toNat = k) : nI n >>> s = nI (n / 2 ^ k) := by
  apply Int32.toInt_inj.mp
  have h2 : n / 2 ^ k ≤ n := Nat.div_le_self _ _
  rw [pk_shr _ _ k hs, nI_toInt h, nI_toInt (by omega), Int.shiftRight_eq_div_pow]
  rfl
theorem pk_ushr (x s : Int32) (k : Nat) (hs : ((s.toUInt32 &&& Int32.toUInt32 31).toBitVec % 32).toNat = k) : (x.toUInt32 >>> (s.toUInt32 &&& Int32.toUInt32 31)).toInt32.toBitVec.toNat = x.toBitVec.toNat / 2 ^ k := by
  have e : (x.toUInt32 >>> (s.toUInt32 &&& Int32.toUInt32 31)).toInt32.toBitVec = x.toBitVec >>> k := by
    rw [← hs]
    exact UInt32.toBitVec_shiftRight _ _
  rw [e, BitVec.toNat_ushiftRight, Nat.shiftRight_eq_div_pow]
theorem pk_ushrN {n : Nat} (hn : n < 2 ^ 32) (s : Int32) (k : Nat) (hs : ((s.toUInt32 &&& Int32.toUInt32 31).toBitVec % 32).toNat = k) : ((nI n).toUInt32 >>> (s.toUInt32 &&& Int32.toUInt32 31)).toInt32 = nI (n / 2 ^ k) := by
  apply Int32.toBitVec_inj.mp
  apply BitVec.eq_of_toNat_eq
  rw [pk_ushr _ s k hs, pk_tn hn, pk_tn (Nat.lt_of_le_of_lt (Nat.div_le_self _ _) hn)]
theorem pk_nb (z : Int32) : narrow .byte (.int z.toInt8.toInt32) = .int z.toInt8.toInt32 := congrArg Value.int (by simp)
theorem pk_ns (z : Int32) : narrow .short (.int z.toInt16.toInt32) = .int z.toInt16.toInt32 := congrArg Value.int (by simp)
theorem pk_fb (r : Int32) : fits .byte (.int r.toInt8.toInt32) = true := by
  have ⟨a, b⟩ := lg_i2b_range r
  have h1 : (-128 : Int32).toInt = -128 := by decide
  have h2 : (127 : Int32).toInt = 127 := by decide
  simp only [fits, Bool.and_eq_true, decide_eq_true_eq, Int32.le_iff_toInt_le, h1, h2]
  omega
theorem pk_fs (r : Int32) : fits .short (.int r.toInt16.toInt32) = true := by
  have ⟨a, b⟩ := lg_i2s_range r
  have h1 : (-32768 : Int32).toInt = -32768 := by decide
  have h2 : (32767 : Int32).toInt = 32767 := by decide
  simp only [fits, Bool.and_eq_true, decide_eq_true_eq, Int32.le_iff_toInt_le, h1, h2]
  omega
theorem pk_charN {q : Nat} (hq : q < 65536) : narrow .char (.int (nI q)) = .int (nI q) ∧ fits .char (.int (nI q)) = true := by
  constructor
  · have e : (nI q).toUInt32.toUInt16.toUInt32.toInt32 = nI q := by
      apply Int32.toBitVec_inj.mp
      apply BitVec.eq_of_toNat_eq
      show (nI q).toUInt32.toUInt16.toUInt32.toNat = q % 2 ^ 32
      rw [UInt16.toNat_toUInt32, UInt32.toNat_toUInt16, show (nI q).toUInt32.toNat = q % 2 ^ 32 from rfl]
      omega
    exact congrArg Value.int e
  · have a : (0 : Int32) ≤ nI q := nI_pos' (by omega)
    have b : nI q ≤ 65535 := nI_le (b := 65535) (by omega) (by decide)
    show (decide ((0 : Int32) ≤ nI q) && decide (nI q ≤ 65535)) = true
    rw [decide_eq_true a, decide_eq_true b]
    rfl
theorem pk_char (x : Int32) : (x.toUInt32 % 65536).toInt32 = nI (x.toBitVec.toNat % 65536) := by
  apply Int32.toBitVec_inj.mp
  apply BitVec.eq_of_toNat_eq
  rw [pk_tn (by omega)]
  show (x.toUInt32 % 65536).toNat = _
  rw [UInt32.toNat_mod]
  rfl
theorem pk_nc (x : Int32) : narrow .char (.int (x.toUInt32 % 65536).toInt32) = .int (x.toUInt32 % 65536).toInt32 := by
  rw [pk_char]
  exact (pk_charN (Nat.mod_lt _ (by decide))).1
theorem pk_fc (x : Int32) : fits .char (.int (x.toUInt32 % 65536).toInt32) = true := by
  rw [pk_char]
  exact (pk_charN (Nat.mod_lt _ (by decide))).2
theorem pk_vb (z : Int32) : vp_nar .byte z.toInt8.toInt32 = z.toInt8.toInt32 := by rw [vp_nar_byte]; simp
theorem pk_vs (z : Int32) : vp_nar .short z.toInt16.toInt32 = z.toInt16.toInt32 := by rw [vp_nar_short]; simp
theorem pk_vc (z : Int32) : vp_nar .char (z.toUInt32 % 65536).toInt32 = (z.toUInt32 % 65536).toInt32 := Value.int.inj (pk_nc z)
theorem pk_lT {n : Nat} (h : n < 2 ^ 63) : (lN n).toInt = (n : Int) := lg_ofNat_toInt h
theorem pk_lLT {a b : Nat} (ha : a < 2 ^ 63) (hb : b < 2 ^ 63) : lN a < lN b ↔ a < b := by
  rw [Int64.lt_iff_toInt_lt, pk_lT ha, pk_lT hb]; omega
theorem pk_lLE {a b : Nat} (ha : a < 2 ^ 63) (hb : b < 2 ^ 63) : lN a ≤ lN b ↔ a ≤ b := by
  rw [Int64.le_iff_toInt_le, pk_lT ha, pk_lT hb]; omega
theorem pk_lEQ {a b : Nat} (ha : a < 2 ^ 63) (hb : b < 2 ^ 63) : lN a = lN b ↔ a = b := by
  rw [← Int64.toInt_inj, pk_lT ha, pk_lT hb]; omega
theorem pk_lOf {x : Int64} (h : ¬ x < 0) : ∃ k : Nat, k < 2 ^ 63 ∧ x = lN k := by
  rw [Int64.lt_iff_toInt_lt] at h
  have h0 : (0 : Int64).toInt = 0 := by decide
  have hx := Int64.toInt_lt x
  refine ⟨x.toInt.toNat, by omega, Int64.toInt_inj.mp ?_⟩
  rw [pk_lT (by omega)]
  omega
def bt (x : Int32) (i : Nat) : Bool := x.toBitVec.getLsbD i
theorem b_ext {x y : Int32} (h : ∀ i, i < 32 → bt x i = bt y i) : x = y := Int32.toBitVec_inj.mp (BitVec.eq_of_getLsbD_eq (fun i hi => h i hi))
theorem b_or (x y : Int32) (i : Nat) : bt (x ||| y) i = (bt x i || bt y i) := by unfold bt; rw [Int32.toBitVec_or, BitVec.getLsbD_or]
theorem b_and (x y : Int32) (i : Nat) : bt (x &&& y) i = (bt x i && bt y i) := by unfold bt; rw [Int32.toBitVec_and, BitVec.getLsbD_and]
theorem b_xor (x y : Int32) (i : Nat) : bt (x ^^^ y) i = (bt x i ^^ bt y i) := by unfold bt; rw [Int32.toBitVec_xor, BitVec.getLsbD_xor]
theorem b_big {x : Int32} {i : Nat} (h : 32 ≤ i) : bt x i = false := BitVec.getLsbD_of_ge _ _ h
theorem b_255 (i : Nat) : bt 255 i = decide (i < 8) := by
  rcases Nat.lt_or_ge i 32 with h | h
  · exact (by decide +kernel : ∀ i, i < 32 → bt 255 i = decide (i < 8)) i h
  · rw [b_big h, decide_eq_false (by omega)]
theorem b_65535 (i : Nat) : bt 65535 i = decide (i < 16) := by
  rcases Nat.lt_or_ge i 32 with h | h
  · exact (by decide +kernel : ∀ i, i < 32 → bt 65535 i = decide (i < 16)) i h
  · rw [b_big h, decide_eq_false (by omega)]
theorem b_m1 : ∀ i, i < 32 → bt (-1) i = true := by decide +kernel
theorem b_0 (i : Nat) : bt 0 i = false := BitVec.getLsbD_zero
theorem s_l : ∀ n, n < 32 → ((nI n &&& 31).toBitVec.smod 32).toNat = n := by decide +kernel
theorem s_u : ∀ n, n < 32 → (((nI n).toUInt32 &&& Int32.toUInt32 31).toBitVec % 32).toNat = n := by decide +kernel
theorem b_shl (n : Nat) (hn : n < 32) (x : Int32) {i : Nat} (hi : i < 32) : bt (x <<< (nI n &&& 31)) i = (decide (n ≤ i) && bt x (i - n)) := by
  unfold bt
  rw [Int32.toBitVec_shiftLeft]
  show (x.toBitVec <<< ((nI n &&& 31).toBitVec.smod 32).toNat).getLsbD i = _
  rw [s_l n hn, BitVec.getLsbD_shiftLeft]
  rcases Nat.lt_or_ge i n with h | h
  · simp [h, Nat.not_le.mpr h]
  · simp [hi, h, Nat.not_lt.mpr h]
theorem b_ushr (n : Nat) (hn : n < 32) (x : Int32) (i : Nat) : bt ((x.toUInt32 >>> ((nI n).toUInt32 &&& Int32.toUInt32 31)).toInt32) i = bt x (n + i) := by
  show (x.toUInt32 >>> ((nI n).toUInt32 &&& Int32.toUInt32 31)).toBitVec.getLsbD i = x.toUInt32.toBitVec.getLsbD (n + i)
  rw [UInt32.toBitVec_shiftRight]
  show (x.toUInt32.toBitVec >>> (((nI n).toUInt32 &&& Int32.toUInt32 31).toBitVec % 32).toNat).getLsbD i = _
  rw [s_u n hn, BitVec.getLsbD_ushiftRight]
theorem b_sshr (n : Nat) (hn : n < 32) (x : Int32) {i : Nat} (hi : i < 32) : bt (x >>> (nI n &&& 31)) i = if n + i < 32 then bt x (n + i) else bt x 31 := by
  unfold bt
  rw [Int32.toBitVec_shiftRight]
  show (x.toBitVec.sshiftRight ((nI n &&& 31).toBitVec.smod 32).toNat).getLsbD i = _
  rw [s_l n hn, BitVec.getLsbD_sshiftRight, BitVec.msb_eq_getLsbD_last]
  simp [hi]
theorem b_shl8 (x : Int32) {i : Nat} (hi : i < 32) : bt (x <<< ((8 : Int32) &&& 31)) i = (decide (8 ≤ i) && bt x (i - 8)) := b_shl 8 (by omega) x hi
theorem b_shl16 (x : Int32) {i : Nat} (hi : i < 32) : bt (x <<< ((16 : Int32) &&& 31)) i = (decide (16 ≤ i) && bt x (i - 16)) := b_shl 16 (by omega) x hi
theorem b_shl24 (x : Int32) {i : Nat} (hi : i < 32) : bt (x <<< ((24 : Int32) &&& 31)) i = (decide (24 ≤ i) && bt x (i - 24)) := b_shl 24 (by omega) x hi
theorem b_sshr8 (x : Int32) {i : Nat} (hi : i < 32) : bt (x >>> ((8 : Int32) &&& 31)) i = if 8 + i < 32 then bt x (8 + i) else bt x 31 := b_sshr 8 (by omega) x hi
noncomputable def qd_b01 (P : Prop) : Nat := @ite Nat P (Classical.propDecidable P) 1 0
theorem qd_b01_t {P : Prop} (h : P) : qd_b01 P = 1 := by unfold qd_b01; rw [if_pos h]
theorem qd_b01_f {P : Prop} (h : ¬ P) : qd_b01 P = 0 := by unfold qd_b01; rw [if_neg h]
theorem qd_b01_le (P : Prop) : qd_b01 P ≤ 1 := by
  rcases Classical.em P with h | h
  · rw [qd_b01_t h]; omega
  · rw [qd_b01_f h]; omega
theorem qd_b01_mono {P Q : Prop} (h : P → Q) : qd_b01 P ≤ qd_b01 Q := by
  rcases Classical.em P with hp | hp
  · rw [qd_b01_t hp, qd_b01_t (h hp)]; omega
  · rw [qd_b01_f hp]; omega
noncomputable def qd_cn (P : Nat → Prop) : Nat → Nat
  | 0 => 0
  | k + 1 => qd_cn P k + qd_b01 (P k)
theorem qd_cn_mono {P Q : Nat → Prop} : ∀ {N : Nat}, (∀ k, k < N → P k → Q k) → qd_cn P N ≤ qd_cn Q N
  | 0, _ => Nat.le_refl _
  | N + 1, h => by
    have a := qd_cn_mono (P := P) (Q := Q) (N := N) (fun k hk => h k (by omega))
    have b := qd_b01_mono (h N (by omega))
    simp only [qd_cn]; omega
theorem qd_cn_lt {P Q : Nat → Prop} {a : Nat} (hp : ¬ P a) (hq : Q a) : ∀ {N : Nat}, (∀ k, k < N → P k → Q k) → a < N → qd_cn P N < qd_cn Q N
  | 0, _, h => by omega
  | N + 1, h, ha => by
    simp only [qd_cn]
    rcases Nat.lt_or_ge a N with z | z
    · have x := qd_cn_lt hp hq (N := N) (fun k hk => h k (by omega)) z
      have b := qd_b01_mono (h N (by omega))
      omega
    · have e : a = N := by omega
      subst e
      have x := qd_cn_mono (P := P) (Q := Q) (N := a) (fun k hk => h k (by omega))
      rw [qd_b01_t hq, qd_b01_f hp]; omega
theorem qd_cn_le (P : Nat → Prop) : ∀ N, qd_cn P N ≤ N
  | 0 => Nat.le_refl _
  | N + 1 => by have := qd_cn_le P N; have := qd_b01_le (P N); simp only [qd_cn]; omega
theorem qd_cn_eq {P Q : Nat → Prop} {N : Nat} (h : ∀ k, k < N → (P k ↔ Q k)) : qd_cn P N = qd_cn Q N :=
  Nat.le_antisymm (qd_cn_mono fun k hk => (h k hk).mp) (qd_cn_mono fun k hk => (h k hk).mpr)
theorem qd_cn_add {P : Nat → Prop} {a : Nat} (hp : ¬ P a) : ∀ {N : Nat}, a < N → qd_cn (fun k => P k ∨ k = a) N = qd_cn P N + 1
  | 0, h => by omega
  | N + 1, h => by
    simp only [qd_cn]
    rcases Nat.lt_or_ge a N with z | z
    · rw [qd_cn_add hp z]
      have : qd_b01 (P N ∨ N = a) = qd_b01 (P N) := Nat.le_antisymm (qd_b01_mono fun q => q.elim id (fun e => by omega)) (qd_b01_mono Or.inl)
      omega
    · have e : a = N := by omega
      subst e
      rw [qd_cn_eq (P := fun k => P k ∨ k = a) (Q := P) (fun k hk => ⟨fun q => q.elim id (fun e => by omega), Or.inl⟩), qd_b01_t (Or.inr rfl), qd_b01_f hp]
end
section
/-! the graph: what a node must satisfy, what names what -/
def qd_ok (K A S B T N : Nat → Int32) (i : Nat) : Prop :=
  ∃ k t : Nat, k ≤ 10 ∧ K i = nI k ∧ t ≤ 6 ∧ T i = nI t ∧ (k ≠ 10 → t = 0) ∧
    (k = 1 → -32768 ≤ (A i).toInt ∧ (A i).toInt ≤ 32767) ∧
    (2 ≤ k → k ≤ 9 → ∃ a, a < 20 ∧ A i = nI a) ∧
    (3 ≤ k → k ≤ 5 → ∃ b, b < 20 ∧ B i = nI b ∧ S i = nI b) ∧
    (k = 8 → ∃ b, b < 8 ∧ B i = nI b ∧ S i = nI b) ∧
    (k = 9 → ∃ b, b < 16 ∧ B i = nI b ∧ S i = nI b) ∧
    (∀ u, u < t → ∃ m, m < 20 ∧ N (6 * i + u) = nI m)
def qd_WF (n : Nat) (K A S B T N : Nat → Int32) : Prop := n ≤ 20 ∧ ∀ i, i < n → qd_ok K A S B T N i
def qd_dep (n : Nat) (K A B T N : Nat → Int32) (i j : Nat) : Prop :=
  j < n ∧ ((3 ≤ (K i).toNatClampNeg ∧ (K i).toNatClampNeg ≤ 9 ∧ j = (A i).toNatClampNeg) ∨
    (3 ≤ (K i).toNatClampNeg ∧ (K i).toNatClampNeg ≤ 5 ∧ j = (B i).toNatClampNeg) ∨
    ∃ u, u < (T i).toNatClampNeg ∧ j = (N (6 * i + u)).toNatClampNeg)
/-- a rank falls along every naming -/
def qd_Rk (n : Nat) (D : Nat → Nat → Prop) : Prop := ∃ rk : Nat → Nat, (∀ i, i < n → rk i < 20) ∧ ∀ i j, i < n → D i j → rk j < rk i
/-- some nodes, each naming one of them -/
def qd_Cy (n : Nat) (D : Nat → Nat → Prop) : Prop := ∃ S : Nat → Prop, (∃ i, S i) ∧ ∀ i, S i → i < n ∧ ∃ j, S j ∧ D i j
/-! bits -/
theorem qd_b1 : ∀ a, a < 32 → ∀ j, j < 32 → bt ((1 : Int32) <<< (nI a &&& 31)) j = decide (j = a) := by decide +kernel
theorem qd_b1i {a : Nat} (ha : a < 32) (j : Nat) : bt ((1 : Int32) <<< (nI a &&& 31)) j = true ↔ j = a := by
  rcases Nat.lt_or_ge j 32 with h | h
  · rw [qd_b1 a ha j h, decide_eq_true_iff]
  · rw [b_big h]
    exact ⟨fun z => absurd z (by decide), fun z => by omega⟩
theorem qd_bm : ∀ n, n < 21 → ∀ j, j < 32 → bt (((1 : Int32) <<< (nI n &&& 31)) - 1) j = decide (j < n) := by decide +kernel
theorem qd_bmi {n : Nat} (hn : n ≤ 20) (j : Nat) : bt (((1 : Int32) <<< (nI n &&& 31)) - 1) j = true ↔ j < n := by
  rcases Nat.lt_or_ge j 32 with h | h
  · rw [qd_bm n (by omega) j h, decide_eq_true_iff]
  · rw [b_big h]
    exact ⟨fun z => absurd z (by decide), fun z => by omega⟩
theorem qd_bor (x y : Int32) (j : Nat) : bt (x ||| y) j = true ↔ (bt x j = true ∨ bt y j = true) := by
  rw [b_or, Bool.or_eq_true]
theorem qd_band (x y : Int32) (j : Nat) : bt (x &&& y) j = true ↔ (bt x j = true ∧ bt y j = true) := by
  rw [b_and, Bool.and_eq_true]
theorem qd_bnot (x : Int32) (j : Nat) : bt (x ^^^ (-1)) j = true ↔ (j < 32 ∧ ¬ bt x j = true) := by
  rcases Nat.lt_or_ge j 32 with h | h
  · rw [b_xor, b_m1 j h]
    cases bt x j
    · exact ⟨fun _ => ⟨h, fun z => absurd z (by decide)⟩, fun _ => rfl⟩
    · exact ⟨fun z => absurd z (by decide), fun z => absurd rfl z.2⟩
  · rw [b_big h]
    exact ⟨fun z => absurd z (by decide), fun z => by omega⟩
theorem qd_b32 {x : Int32} {j : Nat} (h : bt x j = true) : j < 32 := by
  rcases Nat.lt_or_ge j 32 with z | z
  · exact z
  · rw [b_big z] at h
    exact absurd h (by decide)
theorem qd_one : ∀ i, i < 32 → bt 1 i = decide (i = 0) := by decide +kernel
theorem qd_bt1 (x : Int32) {m : Nat} (hm : m < 32) (h : bt x m = true) : ((x >>> (nI m &&& 31)) &&& 1) = 1 := by
  apply b_ext
  intro i hi
  rw [b_and, b_sshr m hm x hi, qd_one i hi]
  by_cases hz : i = 0
  · subst hz
    rw [if_pos (by omega), Nat.add_zero, h]
    rfl
  · rw [decide_eq_false hz, Bool.and_false]
theorem qd_bt0 (x : Int32) {m : Nat} (hm : m < 32) (h : ¬ bt x m = true) : ((x >>> (nI m &&& 31)) &&& 1) = 0 := by
  apply b_ext
  intro i hi
  rw [b_and, b_sshr m hm x hi, qd_one i hi, b_0]
  by_cases hz : i = 0
  · subst hz
    rw [if_pos (by omega), Nat.add_zero, Bool.eq_false_iff.mpr h]
    rfl
  · rw [decide_eq_false hz, Bool.and_false]
/-- r lies within d -/
theorem qd_sub0 (r d : Int32) : (r &&& (d ^^^ (-1))) = 0 ↔ ∀ j, bt r j = true → bt d j = true := by
  constructor
  · intro h j hj
    apply Classical.byContradiction
    intro hd
    have h1 : bt (r &&& (d ^^^ (-1))) j = true := (qd_band _ _ _).mpr ⟨hj, (qd_bnot _ _).mpr ⟨qd_b32 hj, hd⟩⟩
    rw [h, b_0] at h1
    exact absurd h1 (by decide)
  · intro h
    apply b_ext
    intro j hj
    rw [b_0]
    apply Bool.eq_false_iff.mpr
    intro z
    obtain ⟨z1, z2⟩ := (qd_band _ _ _).mp z
    exact ((qd_bnot _ _).mp z2).2 (h j z1)
/-! the taps' names -/
def qd_ns (N : Nat → Int32) (i : Nat) (x : Int32) : Nat → Int32
  | 0 => x
  | t + 1 => qd_ns N i x t ||| ((1 : Int32) <<< (N (6 * i + t) &&& 31))
theorem qd_ns_b {N : Nat → Int32} {i : Nat} {x : Int32} : ∀ {t : Nat}, (∀ u, u < t → ∃ m, m < 20 ∧ N (6 * i + u) = nI m) → ∀ j, bt (qd_ns N i x t) j = true ↔ (bt x j = true ∨ ∃ u, u < t ∧ j = (N (6 * i + u)).toNatClampNeg)
  | 0, _, j => by
    constructor
    · intro h; exact Or.inl h
    · rintro (h | ⟨u, hu, -⟩)
      · exact h
      · exact absurd hu (Nat.not_lt_zero _)
  | t + 1, h, j => by
    obtain ⟨m, hm, e⟩ := h t (by omega)
    have ih := qd_ns_b (x := x) (t := t) (fun u hu => h u (by omega)) j
    rw [qd_ns, qd_bor, ih, e, qd_b1i (by omega)]
    constructor
    · rintro ((h1 | ⟨u, hu, h2⟩) | h3)
      · exact Or.inl h1
      · exact Or.inr ⟨u, by omega, h2⟩
      · exact Or.inr ⟨t, by omega, by rw [e, nI_clamp (by omega)]; exact h3⟩
    · rintro (h1 | ⟨u, hu, h2⟩)
      · exact Or.inl (Or.inl h1)
      · rcases Nat.lt_or_ge u t with z | z
        · exact Or.inl (Or.inr ⟨u, z, h2⟩)
        · have e2 : u = t := by omega
          subst e2
          rw [e, nI_clamp (by omega)] at h2
          exact Or.inr h2
/-! closing a relation under middles -/
def qd_WI (n : Nat) (D : Nat → Nat → Prop) (m : Nat) (M : Nat → Int32) : Prop :=
  (∀ i j, i < n → D i j → bt (M i) j = true) ∧
  (∀ Q : Nat → Nat → Prop, (∀ a b c, Q a b → Q b c → Q a c) → (∀ i j, i < n → D i j → Q i j) → ∀ i j, i < n → bt (M i) j = true → Q i j) ∧
  (∀ c i j, c < m → i < n → bt (M i) c = true → bt (M c) j = true → bt (M i) j = true)
def qd_st (m : Nat) (M : Nat → Int32) (i : Nat) : Int32 := if bt (M i) m = true then M i ||| M m else M i
theorem qd_or_self (x : Int32) : x ||| x = x := by
  apply b_ext
  intro i _
  rw [b_or, Bool.or_self]
theorem qd_st_m (m : Nat) (M : Nat → Int32) : qd_st m M m = M m := by
  unfold qd_st
  split
  · exact qd_or_self _
  · rfl
theorem qd_st_b (m : Nat) (M : Nat → Int32) (i j : Nat) : bt (qd_st m M i) j = true ↔ (bt (M i) j = true ∨ (bt (M i) m = true ∧ bt (M m) j = true)) := by
  unfold qd_st
  by_cases h : bt (M i) m = true
  · rw [if_pos h, qd_bor]
    exact ⟨fun z => z.elim Or.inl (fun y => Or.inr ⟨h, y⟩), fun z => z.elim Or.inl (fun y => Or.inr y.2)⟩
  · rw [if_neg h]
    exact ⟨Or.inl, fun z => z.elim id (fun y => absurd y.1 h)⟩
theorem qd_WI_s {n m : Nat} {D : Nat → Nat → Prop} {M M' : Nat → Int32} (hm : m < n) (h : qd_WI n D m M) (e : ∀ j, M' j = if j < n then qd_st m M j else M j) : qd_WI n D (m + 1) M' := by
  have b : ∀ i j, i < n → (bt (M' i) j = true ↔ (bt (M i) j = true ∨ (bt (M i) m = true ∧ bt (M m) j = true))) := by
    intro i j hi
    rw [e i, if_pos hi]
    exact qd_st_b m M i j
  obtain ⟨h1, h2, h3⟩ := h
  refine ⟨fun i j hi hd => (b i j hi).mpr (Or.inl (h1 i j hi hd)), fun Q tr hQ i j hi hb => ?_, fun c i j hc hi hic hcj => ?_⟩
  · rcases (b i j hi).mp hb with z | ⟨z1, z2⟩
    · exact h2 Q tr hQ i j hi z
    · exact tr _ _ _ (h2 Q tr hQ i m hi z1) (h2 Q tr hQ m j hm z2)
  · have hcn : c < n := by omega
    rw [b i c hi] at hic
    rw [b c j hcn] at hcj
    rw [b i j hi]
    rcases Nat.lt_or_ge c m with z | z
    · rcases hic with p | ⟨p1, p2⟩ <;> rcases hcj with q | ⟨q1, q2⟩
      · exact Or.inl (h3 c i j z hi p q)
      · exact Or.inr ⟨h3 c i m z hi p q1, q2⟩
      · exact Or.inr ⟨p1, h3 c m j z hm p2 q⟩
      · exact Or.inr ⟨p1, q2⟩
    · have ec : c = m := by omega
      subst ec
      have p : bt (M i) c = true := hic.elim id (fun y => y.1)
      have q : bt (M c) j = true := hcj.elim id (fun y => y.2)
      exact Or.inr ⟨p, q⟩
theorem qd_WI_c {n : Nat} {D : Nat → Nat → Prop} {M : Nat → Int32} (h : qd_WI n D n M) (c : qd_Cy n D) : ∃ i, i < n ∧ bt (M i) i = true := by
  obtain ⟨S, ⟨i0, hi0⟩, hS⟩ := c
  obtain ⟨h1, -, h3⟩ := h
  apply Classical.byContradiction
  intro hne
  have ir : ∀ i, i < n → ¬ bt (M i) i = true := fun i hi hb => hne ⟨i, hi, hb⟩
  have key : ∀ m, ∃ i, S i ∧ ∀ j, j < m → S j → ¬ bt (M i) j = true := by
    intro m
    induction m with
    | zero => exact ⟨i0, hi0, fun j hj => absurd hj (Nat.not_lt_zero _)⟩
    | succ m ih =>
      obtain ⟨i, hi, hj⟩ := ih
      by_cases z : S m ∧ bt (M i) m = true
      · have hmn := (hS m z.1).1
        have hin := (hS i hi).1
        refine ⟨m, z.1, fun j hjm hSj hb => ?_⟩
        rcases Nat.lt_or_ge j m with y | y
        · exact hj j y hSj (h3 m i j hmn hin z.2 hb)
        · have e : j = m := by omega
          subst e
          exact ir j hmn hb
      · refine ⟨i, hi, fun j hjm hSj hb => ?_⟩
        rcases Nat.lt_or_ge j m with y | y
        · exact hj j y hSj hb
        · have e : j = m := by omega
          subst e
          exact z ⟨hSj, hb⟩
  obtain ⟨i, hi, hj⟩ := key n
  obtain ⟨hin, j, hSj, hD⟩ := hS i hi
  exact hj j (hS j hSj).1 hSj (h1 i j hin hD)
theorem qd_WI_r {n m : Nat} {D : Nat → Nat → Prop} {M : Nat → Int32} (h : qd_WI n D m M) (r : qd_Rk n D) : ∀ i, i < n → ¬ bt (M i) i = true := by
  obtain ⟨rk, -, hr⟩ := r
  intro i hi hb
  have := h.2.1 (fun a b => rk b < rk a) (fun a b c x y => Nat.lt_trans y x) hr i i hi hb
  exact Nat.lt_irrefl _ this
/-! counting -/
theorem qd_cn_or {P Q : Nat → Prop} : ∀ {N : Nat}, (∀ k, k < N → P k → ¬ Q k) → qd_cn (fun k => P k ∨ Q k) N = qd_cn P N + qd_cn Q N
  | 0, _ => rfl
  | N + 1, h => by
    have ih := qd_cn_or (P := P) (Q := Q) (N := N) (fun k hk => h k (by omega))
    have hN := h N (by omega)
    simp only [qd_cn]
    rw [ih]
    by_cases p : P N
    · rw [qd_b01_t (Or.inl p), qd_b01_t p, qd_b01_f (hN p)]; omega
    · by_cases q : Q N
      · rw [qd_b01_t (Or.inr q), qd_b01_t q, qd_b01_f p]; omega
      · rw [qd_b01_f (fun z => z.elim p q), qd_b01_f p, qd_b01_f q]; omega
theorem qd_cn_all {P : Nat → Prop} : ∀ {N : Nat}, qd_cn P N = N → ∀ k, k < N → P k
  | 0, _, k, hk => absurd hk (Nat.not_lt_zero _)
  | N + 1, h, k, hk => by
    have a := qd_cn_le P N
    have b := qd_b01_le (P N)
    simp only [qd_cn] at h
    rcases Nat.lt_or_ge k N with z | z
    · exact qd_cn_all (P := P) (N := N) (by omega) k z
    · have e : k = N := by omega
      subst e
      apply Classical.byContradiction
      intro hp
      rw [qd_b01_f hp] at h
      omega
theorem qd_cn_ex {P : Nat → Prop} : ∀ {N : Nat}, qd_cn P N < N → ∃ k, k < N ∧ ¬ P k
  | 0, h => absurd h (Nat.not_lt_zero _)
  | N + 1, h => by
    by_cases p : P N
    · simp only [qd_cn] at h
      rw [qd_b01_t p] at h
      obtain ⟨k, hk, hp⟩ := qd_cn_ex (P := P) (N := N) (by omega)
      exact ⟨k, by omega, hp⟩
    · exact ⟨N, by omega, p⟩
theorem qd_cn_pos {P : Nat → Prop} {a : Nat} (ha : P a) : ∀ {N : Nat}, a < N → 0 < qd_cn P N
  | 0, h => absurd h (Nat.not_lt_zero _)
  | N + 1, h => by
    simp only [qd_cn]
    rcases Nat.lt_or_ge a N with z | z
    · have := qd_cn_pos ha z; omega
    · have e : a = N := by omega
      subst e
      rw [qd_b01_t ha]; omega
theorem qd_nar : ∀ i, i < 128 → (nI i).toInt8.toInt32 = nI i := by decide +kernel
theorem qd_narb {i : Nat} (h : i < 128) : vp_nar .byte (nI i).toInt8.toInt32 = nI i := by rw [pk_vb, qd_nar i h]
theorem qd_6 (i u : Nat) : (6 : Int32) * nI i + nI u = nI (6 * i + u) := by
  rw [show (6 : Int32) = nI 6 from rfl, pk_mul, nI_add]
end
section
variable {n : Nat} {ss : Int32} {K A S B T N F Z Q M : Nat → Int32}
/-! the reference: which nodes a node names -/
theorem qd_dep_b (wf : qd_WF n K A S B T N) {i t : Nat} (hT : T i = nI t) (ht : t ≤ 6) (hN : ∀ u, u < t → ∃ m, m < 20 ∧ N (6 * i + u) = nI m) {x : Int32}
    (hx : ∀ j, bt x j = true ↔ ((3 ≤ (K i).toNatClampNeg ∧ (K i).toNatClampNeg ≤ 9 ∧ j = (A i).toNatClampNeg) ∨ (3 ≤ (K i).toNatClampNeg ∧ (K i).toNatClampNeg ≤ 5 ∧ j = (B i).toNatClampNeg))) (j : Nat) :
    bt (qd_ns N i x t &&& (((1 : Int32) <<< (nI n &&& 31)) - 1)) j = true ↔ qd_dep n K A B T N i j := by
  have hc : (T i).toNatClampNeg = t := by rw [hT]; exact nI_clamp (by omega)
  rw [qd_band, qd_ns_b hN, qd_bmi wf.1, hx]
  unfold qd_dep
  rw [hc]
  constructor
  · rintro ⟨(h1 | h1) | h1, h2⟩
    · exact ⟨h2, Or.inl h1⟩
    · exact ⟨h2, Or.inr (Or.inl h1)⟩
    · exact ⟨h2, Or.inr (Or.inr h1)⟩
  · rintro ⟨h2, h1 | h1 | h1⟩
    · exact ⟨Or.inl (Or.inl h1), h2⟩
    · exact ⟨Or.inl (Or.inr h1), h2⟩
    · exact ⟨Or.inr h1, h2⟩
theorem qd_y65 (hn : n ≤ 20) {i t : Nat} (hi : i < n) (hT : T i = nI t) (ht : t ≤ 6) {post : Int32 → Prop} {x : Int32} (h : post (qd_ns N i x t &&& (((1 : Int32) <<< (nI n &&& 31)) - 1))) :
    ∀ d u, u + d = t → wY_namedBy_65 post (nI i) (nI n) ss K A B T N F Z Q M (d + 1) (qd_ns N i x u) (nI u) := by
  intro d
  have v1 : vp_in (nI i) 20 := vp_in_nI (by omega) (by omega)
  have k1 : (nI i).toNatClampNeg = i := nI_clamp (by omega)
  induction d with
  | zero =>
    intro u hu
    have e : u = t := by omega
    subst e
    have c1 : nI u ≤ nI u := nI_le (Nat.le_refl _) (by omega)
    simp only [wY_namedBy_65, v1, k1, hT, c1, true_implies, not_true, false_implies, and_true, true_and]
    exact h
  | succ d ih =>
    generalize hf : d + 1 = f at ih ⊢
    intro u hu
    have v2 : vp_in (nI (6 * i + u)) 120 := vp_in_nI (by omega) (by omega)
    have k2 : (nI (6 * i + u)).toNatClampNeg = 6 * i + u := nI_clamp (by omega)
    have c1 : ¬ nI t ≤ nI u := nI_ge (by omega) (by omega)
    simp only [wY_namedBy_65, v1, k1, hT, c1, qd_6, v2, k2, not_false_iff, true_implies, false_implies, true_and, forall_eq, nI_1]
    exact ih (u + 1) (by omega)
theorem qd_y65e (hn : n ≤ 20) {i t : Nat} (hi : i < n) (hT : T i = nI t) (ht : t ≤ 6) {post : Int32 → Prop} {x : Int32} (h : post (qd_ns N i x t &&& (((1 : Int32) <<< (nI n &&& 31)) - 1))) :
    ∃ n65, wY_namedBy_65 post (nI i) (nI n) ss K A B T N F Z Q M n65 x 0 := ⟨t + 1, qd_y65 hn hi hT ht h t 0 (by omega)⟩
theorem qd_yN (wf : qd_WF n K A S B T N) {i : Nat} (hi : i < n) : ∃ r : Int32, (∀ j, bt r j = true ↔ qd_dep n K A B T N i j) ∧ ∀ post : Int32 → Prop, post r → wpY_namedBy post ((nI n), ss, K, A, B, T, N, F, Z, Q, M) (nI i) := by
  have hn := wf.1
  obtain ⟨k, t, hk, hK, ht, hT, -, -, hA, hB, -, -, hN⟩ := wf.2 i hi
  have v1 : vp_in (nI i) 20 := vp_in_nI (by omega) (by omega)
  have k1 : (nI i).toNatClampNeg = i := nI_clamp (by omega)
  have kk : (K i).toNatClampNeg = k := by rw [hK]; exact nI_clamp (by omega)
  by_cases z1 : 3 ≤ k ∧ k ≤ 9
  · obtain ⟨a, ha, eA⟩ := hA (by omega) z1.2
    have ka : (A i).toNatClampNeg = a := by rw [eA]; exact nI_clamp (by omega)
    have c1 : ¬ nI k < 3 := nI_nlt (b := 3) z1.1 (by omega)
    have c2 : ¬ 9 < nI k := nI_nlt (a := 9) z1.2 (by omega)
    by_cases z2 : k ≤ 5
    · obtain ⟨b, hb, eB, -⟩ := hB z1.1 z2
      have kb : (B i).toNatClampNeg = b := by rw [eB]; exact nI_clamp (by omega)
      have c3 : ¬ 5 < nI k := nI_nlt (a := 5) z2 (by omega)
      refine ⟨_, qd_dep_b wf hT ht hN (x := ((1 : Int32) <<< (nI a &&& 31)) ||| ((1 : Int32) <<< (nI b &&& 31))) (fun j => ?_), fun post hp => ?_⟩
      · rw [qd_bor, qd_b1i (by omega), qd_b1i (by omega), kk, ka, kb]
        constructor
        · rintro (h | h)
          · exact Or.inl ⟨z1.1, z1.2, h⟩
          · exact Or.inr ⟨z1.1, z2, h⟩
        · rintro (h | h)
          · exact Or.inl h.2.2
          · exact Or.inr h.2.2
      · simp only [wpY_namedBy, wY_namedBy_32, v1, k1, hK, c1, c2, c3, eA, eB, not_false_iff, true_implies, false_implies, true_and, forall_eq]
        exact qd_y65e hn hi hT ht hp
    · have c3 : 5 < nI k := nI_lt (a := 5) (by omega) (by omega)
      refine ⟨_, qd_dep_b wf hT ht hN (x := (1 : Int32) <<< (nI a &&& 31)) (fun j => ?_), fun post hp => ?_⟩
      · rw [qd_b1i (by omega), kk, ka]
        constructor
        · intro h
          exact Or.inl ⟨z1.1, z1.2, h⟩
        · rintro (h | h)
          · exact h.2.2
          · exact absurd h.2.1 z2
      · simp only [wpY_namedBy, wY_namedBy_32, v1, k1, hK, c1, c2, c3, eA, not_false_iff, not_true, true_implies, false_implies, true_and, and_true, forall_eq]
        exact qd_y65e hn hi hT ht hp
  · have hb0 : ∀ j, bt 0 j = true ↔ ((3 ≤ (K i).toNatClampNeg ∧ (K i).toNatClampNeg ≤ 9 ∧ j = (A i).toNatClampNeg) ∨ (3 ≤ (K i).toNatClampNeg ∧ (K i).toNatClampNeg ≤ 5 ∧ j = (B i).toNatClampNeg)) := by
      intro j
      rw [b_0, kk]
      constructor
      · intro h; exact absurd h (by decide)
      · rintro (h | h)
        · exact absurd ⟨h.1, h.2.1⟩ z1
        · exact absurd ⟨h.1, by omega⟩ z1
    refine ⟨_, qd_dep_b wf hT ht hN (x := 0) hb0, fun post hp => ?_⟩
    by_cases z2 : k < 3
    · have c1 : nI k < 3 := nI_lt (b := 3) z2 (by omega)
      simp only [wpY_namedBy, wY_namedBy_32, v1, k1, hK, c1, not_false_iff, not_true, true_implies, false_implies, true_and, and_true, forall_eq]
      exact qd_y65e hn hi hT ht hp
    · have c1 : ¬ nI k < 3 := nI_nlt (b := 3) (by omega) (by omega)
      have c2 : 9 < nI k := nI_lt (a := 9) (by omega) (by omega)
      have c3 : 5 < nI k := nI_lt (a := 5) (by omega) (by omega)
      simp only [wpY_namedBy, wY_namedBy_32, v1, k1, hK, c1, c2, c3, not_false_iff, not_true, true_implies, false_implies, true_and, and_true, forall_eq]
      exact qd_y65e hn hi hT ht hp
/-! the reference: sound -/
theorem qd_y94 (hn : n ≤ 20) {post : Int32 → SY → Prop} :
    ∀ d i, i + d = n → ((∀ j, i ≤ j → j < n → ¬ bt (M j) j = true) → post 1 ((nI n), ss, K, A, B, T, N, F, Z, Q, M)) → ((∃ j, i ≤ j ∧ j < n ∧ bt (M j) j = true) → post 0 ((nI n), ss, K, A, B, T, N, F, Z, Q, M)) → wY_sound_94 post (nI n) ss K A B T N F Z Q M (d + 1) (nI i) := by
  intro d
  induction d with
  | zero =>
    intro i hi h1 _
    have e : i = n := by omega
    subst e
    have c1 : nI i ≤ nI i := nI_le (Nat.le_refl _) (by omega)
    simp only [wY_sound_94, c1, true_implies, not_true, false_implies, and_true]
    exact h1 (fun j hj hj2 => by omega)
  | succ d ih =>
    generalize hf : d + 1 = f at ih ⊢
    intro i hi h1 h0
    have c1 : ¬ nI n ≤ nI i := nI_ge (by omega) (by omega)
    have v1 : vp_in (nI i) 20 := vp_in_nI (by omega) (by omega)
    have k1 : (nI i).toNatClampNeg = i := nI_clamp (by omega)
    by_cases z : bt (M i) i = true
    · have c2 := qd_bt1 (M i) (m := i) (by omega) z
      simp only [wY_sound_94, c1, v1, k1, c2, not_false_iff, not_true, true_implies, false_implies, true_and, and_true]
      exact h0 ⟨i, Nat.le_refl _, by omega, z⟩
    · have c2 : ¬ ((M i >>> (nI i &&& 31)) &&& 1) = 1 := by
        rw [qd_bt0 (M i) (m := i) (by omega) z]
        decide
      simp only [wY_sound_94, c1, v1, k1, c2, not_false_iff, not_true, true_implies, false_implies, true_and, and_true, forall_eq, nI_1]
      refine ih (i + 1) (by omega) (fun h => h1 (fun j hj hj2 => ?_)) (fun h => h0 ?_)
      · rcases Nat.lt_or_ge i j with y | y
        · exact h j y hj2
        · have e : j = i := by omega
          subst e
          exact z
      · obtain ⟨j, a, b, c⟩ := h
        exact ⟨j, by omega, b, c⟩
theorem qd_y39 (hn : n ≤ 20) {post : Int32 → SY → Prop} {J : Int32 → (Nat → Int32) → (Nat → Int32) → (Nat → Int32) → (Nat → Int32) → (Nat → Int32) → (Nat → Int32) → (Nat → Int32) → (Nat → Int32) → (Nat → Int32) → Prop} {m : Nat} (hm : m < n)
    (h : ∀ M', (∀ j, M' j = if j < n then qd_st m M j else M j) → J (nI (m + 1)) K A B T N F Z Q M') :
    ∀ d i M', i + d = n → (∀ j, M' j = if j < i then qd_st m M j else M j) → wY_sound_39 post J (nI m) (nI n) ss (d + 1) (nI i) K A B T N F Z Q M' := by
  intro d
  induction d with
  | zero =>
    intro i M' hi e
    have en : i = n := by omega
    subst en
    have c1 : nI i ≤ nI i := nI_le (Nat.le_refl _) (by omega)
    simp only [wY_sound_39, c1, true_implies, not_true, false_implies, and_true, forall_eq, nI_1]
    exact h M' e
  | succ d ih =>
    generalize hf : d + 1 = f at ih ⊢
    intro i M' hi e
    have c1 : ¬ nI n ≤ nI i := nI_ge (by omega) (by omega)
    have v1 : vp_in (nI i) 20 := vp_in_nI (by omega) (by omega)
    have v2 : vp_in (nI m) 20 := vp_in_nI (by omega) (by omega)
    have k1 : (nI i).toNatClampNeg = i := nI_clamp (by omega)
    have k2 : (nI m).toNatClampNeg = m := nI_clamp (by omega)
    have ei : M' i = M i := by rw [e i, if_neg (Nat.lt_irrefl _)]
    have em : M' m = M m := by
      rw [e m]
      split
      · exact qd_st_m m M
      · rfl
    by_cases z : bt (M i) m = true
    · have c2 := qd_bt1 (M i) (m := m) (by omega) z
      simp only [wY_sound_39, c1, v1, v2, k1, k2, ei, em, c2, not_false_iff, not_true, true_implies, false_implies, true_and, and_true, forall_eq, nI_1]
      refine ih (i + 1) _ (by omega) (fun j => ?_)
      by_cases ej : j = i
      · subst ej
        rw [pk_us, if_pos (by omega)]
        unfold qd_st
        rw [if_pos z]
      · rw [pk_un ej, e j]
        by_cases lj : j < i
        · rw [if_pos lj, if_pos (by omega)]
        · rw [if_neg lj, if_neg (by omega)]
    · have c2 : ¬ ((M i >>> (nI m &&& 31)) &&& 1) = 1 := by
        rw [qd_bt0 (M i) (m := m) (by omega) z]
        decide
      simp only [wY_sound_39, c1, v1, k1, ei, c2, not_false_iff, not_true, true_implies, false_implies, true_and, and_true, forall_eq, nI_1]
      refine ih (i + 1) _ (by omega) (fun j => ?_)
      by_cases ej : j = i
      · subst ej
        rw [ei, if_pos (by omega)]
        unfold qd_st
        rw [if_neg z]
      · rw [e j]
        by_cases lj : j < i
        · rw [if_pos lj, if_pos (by omega)]
        · rw [if_neg lj, if_neg (by omega)]
theorem qd_y29 (hn : n ≤ 20) {D : Nat → Nat → Prop} {post : Int32 → SY → Prop} (h : ∀ M', qd_WI n D n M' → ∃ n94, wY_sound_94 post (nI n) ss K A B T N F Z Q M' n94 0) :
    ∀ d m M', m + d = n → qd_WI n D m M' → wY_sound_29 post (nI n) ss (d + 1) (nI m) K A B T N F Z Q M' := by
  intro d
  induction d with
  | zero =>
    intro m M' hm w
    have en : m = n := by omega
    subst en
    have c1 : nI m ≤ nI m := nI_le (Nat.le_refl _) (by omega)
    simp only [wY_sound_29, c1, true_implies, not_true, false_implies, and_true]
    exact h M' w
  | succ d ih =>
    generalize hf : d + 1 = f at ih ⊢
    intro m M' hm w
    have c1 : ¬ nI n ≤ nI m := nI_ge (by omega) (by omega)
    simp only [wY_sound_29, c1, not_false_iff, true_implies, false_implies, true_and]
    refine ⟨n + 1, qd_y39 hn (m := m) (M := M') (by omega) (fun M'' e => ?_) n 0 M' (by omega) (fun j => ?_)⟩
    · exact ih (m + 1) M'' (by omega) (qd_WI_s (by omega) w e)
    · rw [if_neg (Nat.not_lt_zero _)]
theorem qd_y2 (wf : qd_WF n K A S B T N) {post : Int32 → SY → Prop} (h : ∀ M', (∀ i j, i < n → (bt (M' i) j = true ↔ qd_dep n K A B T N i j)) → ∃ n29, wY_sound_29 post (nI n) ss n29 0 K A B T N F Z Q M') :
    ∀ d i M', i + d = n → (∀ i' j, i' < i → (bt (M' i') j = true ↔ qd_dep n K A B T N i' j)) → wY_sound_2 post (nI n) ss (d + 1) (nI i) K A B T N F Z Q M' := by
  have hn := wf.1
  intro d
  induction d with
  | zero =>
    intro i M' hi e
    have en : i = n := by omega
    subst en
    have c1 : nI i ≤ nI i := nI_le (Nat.le_refl _) (by omega)
    simp only [wY_sound_2, c1, true_implies, not_true, false_implies, and_true]
    exact h M' e
  | succ d ih =>
    generalize hf : d + 1 = f at ih ⊢
    intro i M' hi e
    have c1 : ¬ nI n ≤ nI i := nI_ge (by omega) (by omega)
    have v1 : vp_in (nI i) 20 := vp_in_nI (by omega) (by omega)
    have k1 : (nI i).toNatClampNeg = i := nI_clamp (by omega)
    simp only [wY_sound_2, c1, v1, k1, not_false_iff, true_implies, false_implies, true_and, forall_eq, nI_1]
    obtain ⟨r, hr, hw⟩ := qd_yN (ss := ss) (F := F) (Z := Z) (Q := Q) (M := M') wf (i := i) (by omega)
    refine hw _ (ih (i + 1) _ (by omega) (fun i' j hi' => ?_))
    by_cases ej : i' = i
    · subst ej
      rw [pk_us]
      exact hr j
    · rw [pk_un ej]
      exact e i' j (by omega)
theorem qd_yS (wf : qd_WF n K A S B T N) {post : Int32 → SY → Prop} (h : ∀ M', qd_WI n (qd_dep n K A B T N) n M' → ∃ n94, wY_sound_94 post (nI n) ss K A B T N F Z Q M' n94 0) : wpY_sound post ((nI n), ss, K, A, B, T, N, F, Z, Q, M) := by
  have hn := wf.1
  refine ⟨n + 1, qd_y2 wf (fun M' e => ⟨n + 1, qd_y29 hn h n 0 M' (by omega) ⟨fun i j hi hd => (e i j hi).mpr hd, fun P _ hP i j hi hb => hP i j hi ((e i j hi).mp hb), fun c i j hc => by omega⟩⟩) n 0 M (by omega) (fun i' j hi' => by omega)⟩
theorem qd_yS1 (wf : qd_WF n K A S B T N) (r : qd_Rk n (qd_dep n K A B T N)) {post : Int32 → SY → Prop} (h : ∀ M', post 1 ((nI n), ss, K, A, B, T, N, F, Z, Q, M')) : wpY_sound post ((nI n), ss, K, A, B, T, N, F, Z, Q, M) := by
  refine qd_yS wf (fun M' w => ⟨n + 1, qd_y94 wf.1 n 0 (by omega) (fun _ => h M') (fun z => ?_)⟩)
  obtain ⟨j, -, hj, hb⟩ := z
  exact absurd hb (qd_WI_r w r j hj)
theorem qd_yS0 (wf : qd_WF n K A S B T N) (c : qd_Cy n (qd_dep n K A B T N)) {post : Int32 → SY → Prop} (h : ∀ M', post 0 ((nI n), ss, K, A, B, T, N, F, Z, Q, M')) : wpY_sound post ((nI n), ss, K, A, B, T, N, F, Z, Q, M) := by
  refine qd_yS wf (fun M' w => ⟨n + 1, qd_y94 wf.1 n 0 (by omega) (fun z => ?_) (fun _ => h M')⟩)
  obtain ⟨i, hi, hb⟩ := qd_WI_c w c
  exact absurd hb (z i (Nat.zero_le _) hi)
end
section
variable {n : Nat} {ss : Int32} {K A S B T N F Z Q M : Nat → Int32}
/-! what a node is worth, as the reference says it -/
def qd_sat (v : Int64) : Int32 := if v ≤ 32767 then (if -32768 ≤ v then v.toInt32 else -32768) else 32767
def qd_at (n : Nat) (v : Nat → Int32) (x : Int32) : Int32 := if nI n ≤ x then 0 else v x.toNatClampNeg
def qd_sm (n : Nat) (N F v : Nat → Int32) (i : Nat) : Nat → Int64
  | 0 => 16384
  | t + 1 => qd_sm n N F v i t + (F (6 * i + t)).toInt64 * (qd_at n v (N (6 * i + t))).toInt64
def qd_dv (n : Nat) (s : Int32) (A Q : Nat → Int32) (i : Nat) : Int32 := if s = 0 then 0 else if A i < nI n then Q (A i).toNatClampNeg else 0
def qd_wv (n : Nat) (K A B T N F : Nat → Int32) (xi : Int32) (dv v : Nat → Int32) (i : Nat) : Int32 :=
  if K i = 0 then xi else
  if K i = 1 then A i else
  if K i = 10 then qd_sat (qd_sm n N F v i (T i).toNatClampNeg >>> ((15 : Int32).toInt64 &&& 63)) else
  if K i = 2 then dv i else
  if K i = 6 then qd_sat (-(qd_at n v (A i))).toInt64 else
  if K i = 7 then (if 0 ≤ qd_at n v (A i) then qd_sat (qd_at n v (A i)).toInt64 else qd_sat (-(qd_at n v (A i))).toInt64) else
  if K i = 8 then qd_sat (qd_at n v (A i) <<< (B i &&& 31)).toInt64 else
  if K i = 9 then qd_at n v (A i) >>> (B i &&& 31) else
  if K i = 3 then qd_sat (qd_at n v (A i) + qd_at n v (B i)).toInt64 else
  if K i = 4 then qd_sat (qd_at n v (A i) - qd_at n v (B i)).toInt64 else
  (if qd_at n v (A i) ≤ qd_at n v (B i) then qd_at n v (B i) else qd_at n v (A i))
theorem qd_wv_0 {xi : Int32} {dv v : Nat → Int32} {i : Nat} (h : K i = 0) : qd_wv n K A B T N F xi dv v i = xi := by
  unfold qd_wv
  rw [if_pos h]
theorem qd_wv_1 {xi : Int32} {dv v : Nat → Int32} {i : Nat} (h : K i = 1) : qd_wv n K A B T N F xi dv v i = A i := by
  unfold qd_wv
  rw [if_neg (show ¬ K i = 0 by rw [h]; decide), if_pos h]
theorem qd_wv_2 {xi : Int32} {dv v : Nat → Int32} {i : Nat} (h : K i = 2) : qd_wv n K A B T N F xi dv v i = dv i := by
  unfold qd_wv
  rw [if_neg (show ¬ K i = 0 by rw [h]; decide), if_neg (show ¬ K i = 1 by rw [h]; decide), if_neg (show ¬ K i = 10 by rw [h]; decide), if_pos h]
theorem qd_wv_3 {xi : Int32} {dv v : Nat → Int32} {i : Nat} (h : K i = 3) : qd_wv n K A B T N F xi dv v i = qd_sat (qd_at n v (A i) + qd_at n v (B i)).toInt64 := by
  unfold qd_wv
  rw [if_neg (show ¬ K i = 0 by rw [h]; decide), if_neg (show ¬ K i = 1 by rw [h]; decide), if_neg (show ¬ K i = 10 by rw [h]; decide), if_neg (show ¬ K i = 2 by rw [h]; decide), if_neg (show ¬ K i = 6 by rw [h]; decide), if_neg (show ¬ K i = 7 by rw [h]; decide), if_neg (show ¬ K i = 8 by rw [h]; decide), if_neg (show ¬ K i = 9 by rw [h]; decide), if_pos h]
theorem qd_wv_4 {xi : Int32} {dv v : Nat → Int32} {i : Nat} (h : K i = 4) : qd_wv n K A B T N F xi dv v i = qd_sat (qd_at n v (A i) - qd_at n v (B i)).toInt64 := by
  unfold qd_wv
  rw [if_neg (show ¬ K i = 0 by rw [h]; decide), if_neg (show ¬ K i = 1 by rw [h]; decide), if_neg (show ¬ K i = 10 by rw [h]; decide), if_neg (show ¬ K i = 2 by rw [h]; decide), if_neg (show ¬ K i = 6 by rw [h]; decide), if_neg (show ¬ K i = 7 by rw [h]; decide), if_neg (show ¬ K i = 8 by rw [h]; decide), if_neg (show ¬ K i = 9 by rw [h]; decide), if_neg (show ¬ K i = 3 by rw [h]; decide), if_pos h]
theorem qd_wv_5 {xi : Int32} {dv v : Nat → Int32} {i : Nat} (h : K i = 5) : qd_wv n K A B T N F xi dv v i = (if qd_at n v (A i) ≤ qd_at n v (B i) then qd_at n v (B i) else qd_at n v (A i)) := by
  unfold qd_wv
  rw [if_neg (show ¬ K i = 0 by rw [h]; decide), if_neg (show ¬ K i = 1 by rw [h]; decide), if_neg (show ¬ K i = 10 by rw [h]; decide), if_neg (show ¬ K i = 2 by rw [h]; decide), if_neg (show ¬ K i = 6 by rw [h]; decide), if_neg (show ¬ K i = 7 by rw [h]; decide), if_neg (show ¬ K i = 8 by rw [h]; decide), if_neg (show ¬ K i = 9 by rw [h]; decide), if_neg (show ¬ K i = 3 by rw [h]; decide), if_neg (show ¬ K i = 4 by rw [h]; decide)]
theorem qd_wv_6 {xi : Int32} {dv v : Nat → Int32} {i : Nat} (h : K i = 6) : qd_wv n K A B T N F xi dv v i = qd_sat (-(qd_at n v (A i))).toInt64 := by
  unfold qd_wv
  rw [if_neg (show ¬ K i = 0 by rw [h]; decide), if_neg (show ¬ K i = 1 by rw [h]; decide), if_neg (show ¬ K i = 10 by rw [h]; decide), if_neg (show ¬ K i = 2 by rw [h]; decide), if_pos h]
theorem qd_wv_7 {xi : Int32} {dv v : Nat → Int32} {i : Nat} (h : K i = 7) : qd_wv n K A B T N F xi dv v i = (if 0 ≤ qd_at n v (A i) then qd_sat (qd_at n v (A i)).toInt64 else qd_sat (-(qd_at n v (A i))).toInt64) := by
  unfold qd_wv
  rw [if_neg (show ¬ K i = 0 by rw [h]; decide), if_neg (show ¬ K i = 1 by rw [h]; decide), if_neg (show ¬ K i = 10 by rw [h]; decide), if_neg (show ¬ K i = 2 by rw [h]; decide), if_neg (show ¬ K i = 6 by rw [h]; decide), if_pos h]
theorem qd_wv_8 {xi : Int32} {dv v : Nat → Int32} {i : Nat} (h : K i = 8) : qd_wv n K A B T N F xi dv v i = qd_sat (qd_at n v (A i) <<< (B i &&& 31)).toInt64 := by
  unfold qd_wv
  rw [if_neg (show ¬ K i = 0 by rw [h]; decide), if_neg (show ¬ K i = 1 by rw [h]; decide), if_neg (show ¬ K i = 10 by rw [h]; decide), if_neg (show ¬ K i = 2 by rw [h]; decide), if_neg (show ¬ K i = 6 by rw [h]; decide), if_neg (show ¬ K i = 7 by rw [h]; decide), if_pos h]
theorem qd_wv_9 {xi : Int32} {dv v : Nat → Int32} {i : Nat} (h : K i = 9) : qd_wv n K A B T N F xi dv v i = qd_at n v (A i) >>> (B i &&& 31) := by
  unfold qd_wv
  rw [if_neg (show ¬ K i = 0 by rw [h]; decide), if_neg (show ¬ K i = 1 by rw [h]; decide), if_neg (show ¬ K i = 10 by rw [h]; decide), if_neg (show ¬ K i = 2 by rw [h]; decide), if_neg (show ¬ K i = 6 by rw [h]; decide), if_neg (show ¬ K i = 7 by rw [h]; decide), if_neg (show ¬ K i = 8 by rw [h]; decide), if_pos h]
theorem qd_wv_10 {xi : Int32} {dv v : Nat → Int32} {i : Nat} (h : K i = 10) : qd_wv n K A B T N F xi dv v i = qd_sat (qd_sm n N F v i (T i).toNatClampNeg >>> ((15 : Int32).toInt64 &&& 63)) := by
  unfold qd_wv
  rw [if_neg (show ¬ K i = 0 by rw [h]; decide), if_neg (show ¬ K i = 1 by rw [h]; decide), if_pos h]
theorem qd_kinds {k : Nat} (h : k ≤ 10) : k = 0 ∨ k = 1 ∨ k = 2 ∨ k = 3 ∨ k = 4 ∨ k = 5 ∨ k = 6 ∨ k = 7 ∨ k = 8 ∨ k = 9 ∨ k = 10 := by omega
theorem qd_at_c {v v' : Nat → Int32} {x : Int32} {a : Nat} (ha : a < 20) (hx : x = nI a) (hn : n ≤ 20) (h : a < n → v a = v' a) : qd_at n v x = qd_at n v' x := by
  unfold qd_at
  subst hx
  rw [nI_clamp (by omega)]
  by_cases z : nI n ≤ nI a
  · rw [if_pos z, if_pos z]
  · rw [if_neg z, if_neg z]
    rw [nI_leI (by omega) (by omega)] at z
    exact h (by omega)
theorem qd_sm_c {v v' : Nat → Int32} {i : Nat} (hn : n ≤ 20) : ∀ {t : Nat}, (∀ u, u < t → ∃ m, m < 20 ∧ N (6 * i + u) = nI m ∧ (m < n → v m = v' m)) → qd_sm n N F v i t = qd_sm n N F v' i t
  | 0, _ => rfl
  | t + 1, h => by
    obtain ⟨m, hm, e, hv⟩ := h t (by omega)
    rw [qd_sm, qd_sm, qd_sm_c hn (t := t) (fun u hu => h u (by omega)), qd_at_c hm e hn hv]
/-- it rests on the named nodes alone -/
theorem qd_wv_c (wf : qd_WF n K A S B T N) {i : Nat} (hi : i < n) {xi : Int32} {dv dv' v v' : Nat → Int32} (hd : K i = 2 → dv i = dv' i) (h : ∀ j, qd_dep n K A B T N i j → v j = v' j) : qd_wv n K A B T N F xi dv v i = qd_wv n K A B T N F xi dv' v' i := by
  have hn := wf.1
  obtain ⟨k, t, hk, hK, ht, hT, -, -, hA, hB, -, -, hN⟩ := wf.2 i hi
  have kk : (K i).toNatClampNeg = k := by rw [hK]; exact nI_clamp (by omega)
  have kt : (T i).toNatClampNeg = t := by rw [hT]; exact nI_clamp (by omega)
  have eA : 3 ≤ k → k ≤ 9 → qd_at n v (A i) = qd_at n v' (A i) := by
    intro h1 h2
    obtain ⟨a, ha, ea⟩ := hA (by omega) h2
    refine qd_at_c ha ea hn (fun han => h a ⟨han, Or.inl ⟨by omega, by omega, ?_⟩⟩)
    rw [ea, nI_clamp (by omega)]
  have eB : 3 ≤ k → k ≤ 5 → qd_at n v (B i) = qd_at n v' (B i) := by
    intro h1 h2
    obtain ⟨b, hb, eb, -⟩ := hB h1 h2
    refine qd_at_c hb eb hn (fun hbn => h b ⟨hbn, Or.inr (Or.inl ⟨by omega, by omega, ?_⟩)⟩)
    rw [eb, nI_clamp (by omega)]
  have eS : qd_sm n N F v i t = qd_sm n N F v' i t := by
    refine qd_sm_c hn (fun u hu => ?_)
    obtain ⟨m, hm, em⟩ := hN u hu
    refine ⟨m, hm, em, fun hmn => h m ⟨hmn, Or.inr (Or.inr ⟨u, by omega, ?_⟩)⟩⟩
    rw [em, nI_clamp (by omega)]
  rcases qd_kinds hk with rfl | rfl | rfl | rfl | rfl | rfl | rfl | rfl | rfl | rfl | rfl
  · rw [qd_wv_0 hK, qd_wv_0 hK]
  · rw [qd_wv_1 hK, qd_wv_1 hK]
  · rw [qd_wv_2 hK, qd_wv_2 hK, hd hK]
  · rw [qd_wv_3 hK, qd_wv_3 hK, eA (by omega) (by omega), eB (by omega) (by omega)]
  · rw [qd_wv_4 hK, qd_wv_4 hK, eA (by omega) (by omega), eB (by omega) (by omega)]
  · rw [qd_wv_5 hK, qd_wv_5 hK, eA (by omega) (by omega), eB (by omega) (by omega)]
  · rw [qd_wv_6 hK, qd_wv_6 hK, eA (by omega) (by omega)]
  · rw [qd_wv_7 hK, qd_wv_7 hK, eA (by omega) (by omega)]
  · rw [qd_wv_8 hK, qd_wv_8 hK, eA (by omega) (by omega)]
  · rw [qd_wv_9 hK, qd_wv_9 hK, eA (by omega) (by omega)]
  · rw [qd_wv_10 hK, qd_wv_10 hK, kt, eS]
/-! the reference's walk of it -/
theorem qd_ysat {fn : Int32} {post : Int32 → Prop} {v : Int64} (h : post (qd_sat v)) : wpY_sat post (fn, ss, K, A, B, T, N, F, Z, Q, M) v := by
  refine br_c (fun h1 => br_c (fun h2 => ?_) (fun h2 => ?_)) (fun h1 => ?_)
  · rw [qd_sat, if_pos h1, if_pos h2] at h; exact h
  · rw [qd_sat, if_pos h1, if_neg h2] at h; exact h
  · rw [qd_sat, if_neg h1] at h; exact h
theorem qd_ynow {post : Int32 → Prop} {x : Int32} {a : Nat} (ha : a < 20) (hx : x = nI a) (h : post (qd_at n Z x)) : wpY_nowAt post ((nI n), ss, K, A, B, T, N, F, Z, Q, M) x := by
  refine br_c (fun h1 => ?_) (fun h1 => ⟨?_, ?_⟩)
  · rw [qd_at, if_pos h1] at h; exact h
  · rw [hx]; exact vp_in_nI ha (by omega)
  · rw [qd_at, if_neg h1] at h; exact h
theorem qd_y7 (hn : n ≤ 20) {i t : Nat} (hi : i < n) (hT : T i = nI t) (ht : t ≤ 6) (hN : ∀ u, u < t → ∃ m, m < 20 ∧ N (6 * i + u) = nI m) {post : Int32 → Prop}
    (h : post (qd_sat (qd_sm n N F Z i t >>> ((15 : Int32).toInt64 &&& 63)))) :
    ∀ d u, u + d = t → wY_sumOf_7 post (nI i) (nI n) ss K A B T N F Z Q M (d + 1) (qd_sm n N F Z i u) (nI u) := by
  intro d
  have v1 : vp_in (nI i) 20 := vp_in_nI (by omega) (by omega)
  have k1 : (nI i).toNatClampNeg = i := nI_clamp (by omega)
  induction d with
  | zero =>
    intro u hu
    have e : u = t := by omega
    subst e
    have c1 : nI u ≤ nI u := nI_le (Nat.le_refl _) (by omega)
    simp only [wY_sumOf_7, v1, k1, hT, c1, true_implies, not_true, false_implies, and_true, true_and]
    exact qd_ysat h
  | succ d ih =>
    generalize hf : d + 1 = f at ih ⊢
    intro u hu
    have v2 : vp_in (nI (6 * i + u)) 120 := vp_in_nI (by omega) (by omega)
    have k2 : (nI (6 * i + u)).toNatClampNeg = 6 * i + u := nI_clamp (by omega)
    have c1 : ¬ nI t ≤ nI u := nI_ge (by omega) (by omega)
    simp only [wY_sumOf_7, v1, k1, hT, c1, qd_6, v2, k2, not_false_iff, true_implies, false_implies, true_and, forall_eq, nI_1]
    obtain ⟨m, hm, em⟩ := hN u (by omega)
    exact qd_ynow hm em (ih (u + 1) (by omega))
theorem qd_yW (wf : qd_WF n K A S B T N) {i : Nat} (hi : i < n) (x : Int32) {post : Int32 → Prop} (h : post (qd_wv n K A B T N F (qd_sat x.toInt64) (qd_dv n ss A Q) Z i)) : wpY_worth post ((nI n), ss, K, A, B, T, N, F, Z, Q, M) (nI i) x := by
  have hn := wf.1
  obtain ⟨k, t, hk, hK, ht, hT, -, -, hA, hB, h8, h9, hN⟩ := wf.2 i hi
  have v1 : vp_in (nI i) 20 := vp_in_nI (by omega) (by omega)
  have k1 : (nI i).toNatClampNeg = i := nI_clamp (by omega)
  rcases qd_kinds hk with rfl | rfl | rfl | rfl | rfl | rfl | rfl | rfl | rfl | rfl | rfl
  · rw [qd_wv_0 hK] at h
    have e0 : (K i = 0) = True := eq_true hK
    simp only [wpY_worth, wY_worth_150, v1, k1, e0, not_false_iff, not_true, true_implies, false_implies, true_and, and_true]
    exact qd_ysat h
  · rw [qd_wv_1 hK] at h
    have e0 : (K i = 0) = False := eq_false (show ¬ K i = 0 by rw [hK]; decide)
    have e1 : (K i = 1) = True := eq_true hK
    simp only [wpY_worth, wY_worth_150, v1, k1, e0, e1, not_false_iff, not_true, true_implies, false_implies, true_and, and_true]
    exact h
  · rw [qd_wv_2 hK] at h
    have e0 : (K i = 0) = False := eq_false (show ¬ K i = 0 by rw [hK]; decide)
    have e1 : (K i = 1) = False := eq_false (show ¬ K i = 1 by rw [hK]; decide)
    have e10 : (K i = 10) = False := eq_false (show ¬ K i = 10 by rw [hK]; decide)
    have e2 : (K i = 2) = True := eq_true hK
    simp only [wpY_worth, wY_worth_150, v1, k1, e0, e1, e10, e2, not_false_iff, not_true, true_implies, false_implies, true_and, and_true]
    obtain ⟨a, ha, ea⟩ := hA (by omega) (by omega)
    have va : vp_in (A i) 20 := by rw [ea]; exact vp_in_nI ha (by omega)
    refine br_c (fun h1 => ?_) (fun h1 => br_c (fun h2 => ⟨va, ?_⟩) (fun h2 => ?_))
    · rw [qd_dv, if_pos h1] at h; exact h
    · rw [qd_dv, if_neg h1, if_pos h2] at h; exact h
    · rw [qd_dv, if_neg h1, if_neg h2] at h; exact h
  · rw [qd_wv_3 hK] at h
    have e0 : (K i = 0) = False := eq_false (show ¬ K i = 0 by rw [hK]; decide)
    have e1 : (K i = 1) = False := eq_false (show ¬ K i = 1 by rw [hK]; decide)
    have e10 : (K i = 10) = False := eq_false (show ¬ K i = 10 by rw [hK]; decide)
    have e2 : (K i = 2) = False := eq_false (show ¬ K i = 2 by rw [hK]; decide)
    have e6 : (K i = 6) = False := eq_false (show ¬ K i = 6 by rw [hK]; decide)
    have e7 : (K i = 7) = False := eq_false (show ¬ K i = 7 by rw [hK]; decide)
    have e8 : (K i = 8) = False := eq_false (show ¬ K i = 8 by rw [hK]; decide)
    have e9 : (K i = 9) = False := eq_false (show ¬ K i = 9 by rw [hK]; decide)
    have e3 : (K i = 3) = True := eq_true hK
    simp only [wpY_worth, wY_worth_150, v1, k1, e0, e1, e10, e2, e6, e7, e8, e9, e3, not_false_iff, not_true, true_implies, false_implies, true_and, and_true]
    obtain ⟨a, ha, ea⟩ := hA (by omega) (by omega)
    obtain ⟨b, hb, eb, -⟩ := hB (by omega) (by omega)
    exact qd_ynow ha ea (qd_ynow hb eb (qd_ysat h))
  · rw [qd_wv_4 hK] at h
    have e0 : (K i = 0) = False := eq_false (show ¬ K i = 0 by rw [hK]; decide)
    have e1 : (K i = 1) = False := eq_false (show ¬ K i = 1 by rw [hK]; decide)
    have e10 : (K i = 10) = False := eq_false (show ¬ K i = 10 by rw [hK]; decide)
    have e2 : (K i = 2) = False := eq_false (show ¬ K i = 2 by rw [hK]; decide)
    have e6 : (K i = 6) = False := eq_false (show ¬ K i = 6 by rw [hK]; decide)
    have e7 : (K i = 7) = False := eq_false (show ¬ K i = 7 by rw [hK]; decide)
    have e8 : (K i = 8) = False := eq_false (show ¬ K i = 8 by rw [hK]; decide)
    have e9 : (K i = 9) = False := eq_false (show ¬ K i = 9 by rw [hK]; decide)
    have e3 : (K i = 3) = False := eq_false (show ¬ K i = 3 by rw [hK]; decide)
    have e4 : (K i = 4) = True := eq_true hK
    simp only [wpY_worth, wY_worth_150, v1, k1, e0, e1, e10, e2, e6, e7, e8, e9, e3, e4, not_false_iff, not_true, true_implies, false_implies, true_and, and_true]
    obtain ⟨a, ha, ea⟩ := hA (by omega) (by omega)
    obtain ⟨b, hb, eb, -⟩ := hB (by omega) (by omega)
    exact qd_ynow ha ea (qd_ynow hb eb (qd_ysat h))
  · rw [qd_wv_5 hK] at h
    have e0 : (K i = 0) = False := eq_false (show ¬ K i = 0 by rw [hK]; decide)
    have e1 : (K i = 1) = False := eq_false (show ¬ K i = 1 by rw [hK]; decide)
    have e10 : (K i = 10) = False := eq_false (show ¬ K i = 10 by rw [hK]; decide)
    have e2 : (K i = 2) = False := eq_false (show ¬ K i = 2 by rw [hK]; decide)
    have e6 : (K i = 6) = False := eq_false (show ¬ K i = 6 by rw [hK]; decide)
    have e7 : (K i = 7) = False := eq_false (show ¬ K i = 7 by rw [hK]; decide)
    have e8 : (K i = 8) = False := eq_false (show ¬ K i = 8 by rw [hK]; decide)
    have e9 : (K i = 9) = False := eq_false (show ¬ K i = 9 by rw [hK]; decide)
    have e3 : (K i = 3) = False := eq_false (show ¬ K i = 3 by rw [hK]; decide)
    have e4 : (K i = 4) = False := eq_false (show ¬ K i = 4 by rw [hK]; decide)
    simp only [wpY_worth, wY_worth_150, v1, k1, e0, e1, e10, e2, e6, e7, e8, e9, e3, e4, not_false_iff, not_true, true_implies, false_implies, true_and, and_true]
    obtain ⟨a, ha, ea⟩ := hA (by omega) (by omega)
    obtain ⟨b, hb, eb, -⟩ := hB (by omega) (by omega)
    refine qd_ynow ha ea (qd_ynow hb eb (br_c (fun h1 => ?_) (fun h1 => ?_)))
    · rw [if_pos h1] at h; exact h
    · rw [if_neg h1] at h; exact h
  · rw [qd_wv_6 hK] at h
    have e0 : (K i = 0) = False := eq_false (show ¬ K i = 0 by rw [hK]; decide)
    have e1 : (K i = 1) = False := eq_false (show ¬ K i = 1 by rw [hK]; decide)
    have e10 : (K i = 10) = False := eq_false (show ¬ K i = 10 by rw [hK]; decide)
    have e2 : (K i = 2) = False := eq_false (show ¬ K i = 2 by rw [hK]; decide)
    have e6 : (K i = 6) = True := eq_true hK
    simp only [wpY_worth, wY_worth_150, v1, k1, e0, e1, e10, e2, e6, not_false_iff, not_true, true_implies, false_implies, true_and, and_true]
    obtain ⟨a, ha, ea⟩ := hA (by omega) (by omega)
    exact qd_ynow ha ea (qd_ysat h)
  · rw [qd_wv_7 hK] at h
    have e0 : (K i = 0) = False := eq_false (show ¬ K i = 0 by rw [hK]; decide)
    have e1 : (K i = 1) = False := eq_false (show ¬ K i = 1 by rw [hK]; decide)
    have e10 : (K i = 10) = False := eq_false (show ¬ K i = 10 by rw [hK]; decide)
    have e2 : (K i = 2) = False := eq_false (show ¬ K i = 2 by rw [hK]; decide)
    have e6 : (K i = 6) = False := eq_false (show ¬ K i = 6 by rw [hK]; decide)
    have e7 : (K i = 7) = True := eq_true hK
    simp only [wpY_worth, wY_worth_150, v1, k1, e0, e1, e10, e2, e6, e7, not_false_iff, not_true, true_implies, false_implies, true_and, and_true]
    obtain ⟨a, ha, ea⟩ := hA (by omega) (by omega)
    refine qd_ynow ha ea (br_c (fun h1 => ?_) (fun h1 => ?_))
    · rw [if_pos h1] at h; exact qd_ysat h
    · rw [if_neg h1] at h; exact qd_ysat h
  · rw [qd_wv_8 hK] at h
    have e0 : (K i = 0) = False := eq_false (show ¬ K i = 0 by rw [hK]; decide)
    have e1 : (K i = 1) = False := eq_false (show ¬ K i = 1 by rw [hK]; decide)
    have e10 : (K i = 10) = False := eq_false (show ¬ K i = 10 by rw [hK]; decide)
    have e2 : (K i = 2) = False := eq_false (show ¬ K i = 2 by rw [hK]; decide)
    have e6 : (K i = 6) = False := eq_false (show ¬ K i = 6 by rw [hK]; decide)
    have e7 : (K i = 7) = False := eq_false (show ¬ K i = 7 by rw [hK]; decide)
    have e8 : (K i = 8) = True := eq_true hK
    simp only [wpY_worth, wY_worth_150, v1, k1, e0, e1, e10, e2, e6, e7, e8, not_false_iff, not_true, true_implies, false_implies, true_and, and_true]
    obtain ⟨a, ha, ea⟩ := hA (by omega) (by omega)
    exact qd_ynow ha ea (qd_ysat h)
  · rw [qd_wv_9 hK] at h
    have e0 : (K i = 0) = False := eq_false (show ¬ K i = 0 by rw [hK]; decide)
    have e1 : (K i = 1) = False := eq_false (show ¬ K i = 1 by rw [hK]; decide)
    have e10 : (K i = 10) = False := eq_false (show ¬ K i = 10 by rw [hK]; decide)
    have e2 : (K i = 2) = False := eq_false (show ¬ K i = 2 by rw [hK]; decide)
    have e6 : (K i = 6) = False := eq_false (show ¬ K i = 6 by rw [hK]; decide)
    have e7 : (K i = 7) = False := eq_false (show ¬ K i = 7 by rw [hK]; decide)
    have e8 : (K i = 8) = False := eq_false (show ¬ K i = 8 by rw [hK]; decide)
    have e9 : (K i = 9) = True := eq_true hK
    simp only [wpY_worth, wY_worth_150, v1, k1, e0, e1, e10, e2, e6, e7, e8, e9, not_false_iff, not_true, true_implies, false_implies, true_and, and_true]
    obtain ⟨a, ha, ea⟩ := hA (by omega) (by omega)
    exact qd_ynow ha ea h
  · rw [qd_wv_10 hK] at h
    have e0 : (K i = 0) = False := eq_false (show ¬ K i = 0 by rw [hK]; decide)
    have e1 : (K i = 1) = False := eq_false (show ¬ K i = 1 by rw [hK]; decide)
    have e10 : (K i = 10) = True := eq_true hK
    simp only [wpY_worth, wY_worth_150, v1, k1, e0, e1, e10, not_false_iff, not_true, true_implies, false_implies, true_and, and_true]
    have kt : (T i).toNatClampNeg = t := by rw [hT]; exact nI_clamp (by omega)
    rw [kt] at h
    exact ⟨t + 1, qd_y7 hn hi hT ht hN h t 0 (by omega)⟩
/-! the reference's rounds -/
theorem qd_y47 (wf : qd_WF n K A S B T N) {x : Int32} {V : Nat → Int32} (hV : ∀ i, i < n → V i = qd_wv n K A B T N F (qd_sat x.toInt64) (qd_dv n ss A Q) V i)
    {rk : Nat → Nat} (hrk : ∀ i j, i < n → qd_dep n K A B T N i j → rk j < rk i) {r : Nat} {post : Int32 → SY → Prop}
    {J : Int32 → (Nat → Int32) → (Nat → Int32) → (Nat → Int32) → (Nat → Int32) → (Nat → Int32) → (Nat → Int32) → (Nat → Int32) → (Nat → Int32) → (Nat → Int32) → Prop}
    (h : ∀ Z', (∀ j, j < n → rk j < r + 1 → Z' j = V j) → J (nI (r + 1)) K A B T N F Z' Q M) :
    ∀ d i Z', i + d = n → (∀ j, j < n → (rk j < r ∨ (rk j = r ∧ j < i)) → Z' j = V j) → wY_feed_47 post J x (nI r) (nI n) ss (d + 1) (nI i) K A B T N F Z' Q M := by
  have hn := wf.1
  intro d
  induction d with
  | zero =>
    intro i Z' hi e
    have en : i = n := by omega
    subst en
    have c1 : nI i ≤ nI i := nI_le (Nat.le_refl _) (by omega)
    simp only [wY_feed_47, c1, true_implies, not_true, false_implies, and_true, forall_eq, nI_1]
    exact h Z' (fun j hj hr => e j hj (by omega))
  | succ d ih =>
    generalize hf : d + 1 = f at ih ⊢
    intro i Z' hi e
    have c1 : ¬ nI n ≤ nI i := nI_ge (by omega) (by omega)
    have v1 : vp_in (nI i) 20 := vp_in_nI (by omega) (by omega)
    have k1 : (nI i).toNatClampNeg = i := nI_clamp (by omega)
    simp only [wY_feed_47, c1, v1, k1, not_false_iff, true_implies, false_implies, true_and, forall_eq, nI_1]
    refine qd_yW wf (by omega) x (ih (i + 1) _ (by omega) (fun j hj hr => ?_))
    by_cases ej : j = i
    · subst ej
      rw [pk_us, hV j hj]
      refine qd_wv_c wf hj (fun _ => rfl) (fun l hl => e l hl.1 ?_)
      have := hrk j l hj hl
      omega
    · rw [pk_un ej]
      exact e j hj (by omega)
theorem qd_y39f (wf : qd_WF n K A S B T N) {x : Int32} {V : Nat → Int32} (hV : ∀ i, i < n → V i = qd_wv n K A B T N F (qd_sat x.toInt64) (qd_dv n ss A Q) V i)
    {rk : Nat → Nat} (hrk : ∀ i j, i < n → qd_dep n K A B T N i j → rk j < rk i) (h20 : ∀ i, i < n → rk i < 20) {post : Int32 → SY → Prop}
    (h : ∀ Z', (∀ j, j < n → Z' j = V j) → post 1 ((nI n), ss + 1, K, A, B, T, N, F, Z', Q, M)) :
    ∀ d r Z', r + d = 20 → (∀ j, j < n → rk j < r → Z' j = V j) → wY_feed_39 post x (nI n) ss (d + 1) (nI r) K A B T N F Z' Q M := by
  have hn := wf.1
  intro d
  induction d with
  | zero =>
    intro r Z' hr e
    have er : r = 20 := by omega
    subst er
    have c1 : (20 : Int32) ≤ nI 20 := by decide
    simp only [wY_feed_39, c1, true_implies, not_true, false_implies, and_true, forall_eq]
    exact h Z' (fun j hj => e j hj (h20 j hj))
  | succ d ih =>
    generalize hf : d + 1 = f at ih ⊢
    intro r Z' hr e
    have c1 : ¬ (20 : Int32) ≤ nI r := nI_ge (b := 20) (by omega) (by omega)
    simp only [wY_feed_39, c1, not_false_iff, true_implies, false_implies, true_and]
    refine ⟨n + 1, qd_y47 wf hV hrk (r := r) (fun Z'' e' => ih (r + 1) Z'' (by omega) e') n 0 Z' (by omega) (fun j hj hr => e j hj (by omega))⟩
theorem qd_y11 (hn : n ≤ 20) {x : Int32} {post : Int32 → SY → Prop} (h : ∀ Q', (∀ j, j < n → Q' j = Z j) → ∃ n39, wY_feed_39 post x (nI n) ss n39 0 K A B T N F Z Q' M) :
    ∀ d i Q', i + d = n → (∀ j, j < i → Q' j = Z j) → wY_feed_11 post x (nI n) ss (d + 1) (nI i) K A B T N F Z Q' M := by
  intro d
  induction d with
  | zero =>
    intro i Q' hi e
    have en : i = n := by omega
    subst en
    have c1 : nI i ≤ nI i := nI_le (Nat.le_refl _) (by omega)
    simp only [wY_feed_11, c1, true_implies, not_true, false_implies, and_true]
    exact h Q' e
  | succ d ih =>
    generalize hf : d + 1 = f at ih ⊢
    intro i Q' hi e
    have c1 : ¬ nI n ≤ nI i := nI_ge (by omega) (by omega)
    have v1 : vp_in (nI i) 20 := vp_in_nI (by omega) (by omega)
    have k1 : (nI i).toNatClampNeg = i := nI_clamp (by omega)
    simp only [wY_feed_11, c1, v1, k1, not_false_iff, true_implies, false_implies, true_and, forall_eq, nI_1]
    refine ih (i + 1) _ (by omega) (fun j hj => ?_)
    by_cases ej : j = i
    · subst ej
      rw [pk_us]
    · rw [pk_un ej]
      exact e j (by omega)
theorem qd_yF1 (wf : qd_WF n K A S B T N) {x : Int32} {V : Nat → Int32} (hV : ∀ i, i < n → V i = qd_wv n K A B T N F (qd_sat x.toInt64) (qd_dv n ss A Z) V i)
    (r : qd_Rk n (qd_dep n K A B T N)) {post : Int32 → SY → Prop} (h : ∀ Z' Q' M', (∀ j, j < n → Z' j = V j) → post 1 ((nI n), ss + 1, K, A, B, T, N, F, Z', Q', M')) : wpY_feed post ((nI n), ss, K, A, B, T, N, F, Z, Q, M) x := by
  have hn := wf.1
  unfold wpY_feed
  refine qd_yS1 wf r (fun M' => br_f (by decide) ⟨n + 1, ?_⟩)
  obtain ⟨rk, h20, hrk⟩ := r
  refine qd_y11 hn (fun Q' e => ⟨20 + 1, ?_⟩) n 0 Q (by omega) (fun j hj => by omega)
  refine qd_y39f wf (V := V) (fun i hi => ?_) hrk h20 (fun Z' e' => h Z' Q' M' e') 20 0 Z (by omega) (fun j hj hr => by omega)
  refine (hV i hi).trans (qd_wv_c wf hi (fun h2 => ?_) (fun j _ => rfl))
  obtain ⟨k, t, hk, hK, -, -, -, -, hA, -⟩ := wf.2 i hi
  have k2 : k = 2 := by
    rw [hK] at h2
    exact (nI_eq (b := 2) (by omega) (by omega)).mp h2
  obtain ⟨a, ha, ea⟩ := hA (by omega) (by omega)
  unfold qd_dv
  rw [ea, nI_clamp (by omega)]
  by_cases z : ss = 0
  · rw [if_pos z, if_pos z]
  · rw [if_neg z, if_neg z]
    by_cases y : nI a < nI n
    · rw [if_pos y, if_pos y]
      rw [nI_ltI (by omega) (by omega)] at y
      exact (e a y).symm
    · rw [if_neg y, if_neg y]
theorem qd_yF0 (wf : qd_WF n K A S B T N) {x : Int32} (c : qd_Cy n (qd_dep n K A B T N)) {post : Int32 → SY → Prop} (h : ∀ M', post 0 ((nI n), ss, K, A, B, T, N, F, Z, Q, M')) : wpY_feed post ((nI n), ss, K, A, B, T, N, F, Z, Q, M) x := by
  unfold wpY_feed
  exact qd_yS0 wf c (fun M' => br_t rfl (h M'))
end
section
variable {n : Nat} {co so pl ce hc sc : Int32} {ac : Int64} {K A S B T N F O op od cf C : Nat → Int32}
/-! the placed nodes -/
def qd_OI (n : Nat) (K : Nat → Int32) (D : Nat → Nat → Prop) (dn : Int32) (p : Nat) (O : Nat → Int32) : Prop :=
  (∀ q, q < p → ∃ i, i < n ∧ O q = nI i ∧ ¬ K i = 2 ∧ ∀ j, D i j → K j = 2 ∨ ∃ q', q' < q ∧ O q' = nI j) ∧
  (∀ q q', q < q' → q' < p → ¬ O q = O q') ∧
  (∀ i, bt dn i = true → i < n ∧ ¬ K i = 2 ∧ ∃ q, q < p ∧ O q = nI i) ∧
  (∀ q i, q < p → i < n → O q = nI i → bt dn i = true) ∧
  qd_cn (fun i => bt dn i = true) n = p
def qd_okd (K : Nat → Int32) (D : Nat → Nat → Prop) (dn : Int32) (i : Nat) : Prop := K i = 2 ∨ bt dn i = true ∨ ∃ j, D i j ∧ ¬ K j = 2 ∧ ¬ bt dn j = true
theorem qd_OI_0 {D : Nat → Nat → Prop} : qd_OI n K D 0 0 O := by
  refine ⟨fun q hq => absurd hq (Nat.not_lt_zero _), fun q q' _ hq => absurd hq (Nat.not_lt_zero _), fun i hb => ?_, fun q i hq => absurd hq (Nat.not_lt_zero _), ?_⟩
  · rw [b_0] at hb
    exact absurd hb (by decide)
  · have h : ∀ N, qd_cn (fun i => bt 0 i = true) N = 0 := by
      intro N
      induction N with
      | zero => rfl
      | succ N ih =>
        simp only [qd_cn]
        rw [ih, qd_b01_f (by rw [b_0]; decide)]
    exact h n
theorem qd_OI_s {D : Nat → Nat → Prop} {dn : Int32} {p i : Nat} (hn : n ≤ 20) (hi : i < n) (h2 : ¬ K i = 2) (hd : ¬ bt dn i = true) (hD : ∀ j, D i j → ¬ K j = 2 → bt dn j = true) (h : qd_OI n K D dn p O) :
    p < n ∧ qd_OI n K D (dn ||| ((1 : Int32) <<< (nI i &&& 31))) (p + 1) (upd O p (nI i)) := by
  obtain ⟨a1, a2, a3, a4, a5⟩ := h
  have bb : ∀ j, bt (dn ||| ((1 : Int32) <<< (nI i &&& 31))) j = true ↔ (bt dn j = true ∨ j = i) := by
    intro j
    rw [qd_bor, qd_b1i (by omega)]
  have cc : qd_cn (fun j => bt (dn ||| ((1 : Int32) <<< (nI i &&& 31))) j = true) n = p + 1 := by
    rw [qd_cn_eq (Q := fun j => bt dn j = true ∨ j = i) (fun j _ => bb j), qd_cn_add (P := fun j => bt dn j = true) hd hi, a5]
  have hp : p < n := by
    have := qd_cn_le (fun j => bt (dn ||| ((1 : Int32) <<< (nI i &&& 31))) j = true) n
    omega
  refine ⟨hp, ?_, ?_, ?_, ?_, cc⟩
  · intro q hq
    rcases Nat.lt_or_ge q p with z | z
    · obtain ⟨i', b1, b2, b3, b4⟩ := a1 q z
      refine ⟨i', b1, by rw [pk_un (by omega)]; exact b2, b3, fun j hj => ?_⟩
      rcases b4 j hj with y | ⟨q', hq', e⟩
      · exact Or.inl y
      · exact Or.inr ⟨q', hq', by rw [pk_un (by omega)]; exact e⟩
    · have e : q = p := by omega
      subst e
      refine ⟨i, hi, pk_us, h2, fun j hj => ?_⟩
      by_cases y : K j = 2
      · exact Or.inl y
      · obtain ⟨-, -, q', hq', e⟩ := a3 j (hD j hj y)
        exact Or.inr ⟨q', hq', by rw [pk_un (by omega)]; exact e⟩
  · intro q q' hqq hq' e
    rw [pk_un (show q ≠ p by omega)] at e
    rcases Nat.lt_or_ge q' p with z | z
    · rw [pk_un (by omega)] at e
      exact a2 q q' hqq z e
    · have e2 : q' = p := by omega
      subst e2
      rw [pk_us] at e
      exact hd (a4 q i hqq hi e)
  · intro j hj
    rcases (bb j).mp hj with z | z
    · obtain ⟨b1, b2, q, hq, e⟩ := a3 j z
      exact ⟨b1, b2, q, by omega, by rw [pk_un (by omega)]; exact e⟩
    · subst z
      exact ⟨hi, h2, p, by omega, pk_us⟩
  · intro q j hq hj e
    rcases Nat.lt_or_ge q p with z | z
    · rw [pk_un (by omega)] at e
      exact (bb j).mpr (Or.inl (a4 q j z hj e))
    · have e2 : q = p := by omega
      subst e2
      rw [pk_us, nI_eq (by omega) (by omega)] at e
      exact (bb j).mpr (Or.inr e.symm)
theorem qd_OI_cov {D : Nat → Nat → Prop} {dn : Int32} {p : Nat} (h : qd_OI n K D dn p O) (e : p + qd_cn (fun i => K i = 2) n = n) : ∀ i, i < n → ¬ K i = 2 → ∃ q, q < p ∧ O q = nI i := by
  obtain ⟨a1, a2, a3, a4, a5⟩ := h
  intro i hi h2
  have c := qd_cn_or (P := fun i => bt dn i = true) (Q := fun i => K i = 2) (N := n) (fun k _ hb => (a3 k hb).2.1)
  rw [a5, e] at c
  rcases qd_cn_all c i hi with z | z
  · exact (a3 i z).2.2
  · exact absurd z h2
theorem qd_OI_rk {D : Nat → Nat → Prop} {dn : Int32} {p : Nat} (hn : n ≤ 20) (hD : ∀ i j, i < n → D i j → j < n ∧ ¬ K i = 2) (h : qd_OI n K D dn p O) (e : p + qd_cn (fun i => K i = 2) n = n) : qd_Rk n D := by
  have cov := qd_OI_cov h e
  obtain ⟨a1, a2, a3, a4, a5⟩ := h
  have ch : ∀ i, ∃ q, i < n → ¬ K i = 2 → q < p ∧ O q = nI i := by
    intro i
    by_cases z : i < n ∧ ¬ K i = 2
    · obtain ⟨q, hq⟩ := cov i z.1 z.2
      exact ⟨q, fun _ _ => hq⟩
    · exact ⟨0, fun y1 y2 => absurd ⟨y1, y2⟩ z⟩
  obtain ⟨f, hf⟩ : ∃ f : Nat → Nat, ∀ i, i < n → ¬ K i = 2 → f i < p ∧ O (f i) = nI i := ⟨fun i => Classical.choose (ch i), fun i => Classical.choose_spec (ch i)⟩
  generalize hdl : qd_cn (fun i => K i = 2) n = dl at e
  refine ⟨fun i => if K i = 2 then 0 else dl + f i, fun i hi => ?_, fun i j hi hj => ?_⟩
  · show (if K i = 2 then 0 else dl + f i) < 20
    by_cases z : K i = 2
    · rw [if_pos z]; omega
    · rw [if_neg z]
      have := (hf i hi z).1
      omega
  · show (if K j = 2 then 0 else dl + f j) < (if K i = 2 then 0 else dl + f i)
    obtain ⟨hjn, hi2⟩ := hD i j hi hj
    rw [if_neg hi2]
    obtain ⟨hfi, efi⟩ := hf i hi hi2
    by_cases z : K j = 2
    · rw [if_pos z]
      have := qd_cn_pos (P := fun i => K i = 2) (a := j) z hjn
      omega
    · rw [if_neg z]
      obtain ⟨i', hi', e', -, hd⟩ := a1 (f i) hfi
      rw [efi, nI_eq (by omega) (by omega)] at e'
      subst e'
      rcases hd j hj with y | ⟨q', hq', eq'⟩
      · exact absurd y z
      · obtain ⟨hfj, efj⟩ := hf j hjn z
        have : f j = q' := by
          rcases Nat.lt_trichotomy (f j) q' with y | y | y
          · exact absurd (efj.trans eq'.symm) (a2 _ _ y (by omega))
          · exact y
          · exact absurd (eq'.trans efj.symm) (a2 _ _ y (by omega))
        omega
theorem qd_OI_cy {D : Nat → Nat → Prop} {dn : Int32} {p : Nat} (hD : ∀ i j, i < n → D i j → j < n ∧ ¬ K i = 2) (h : qd_OI n K D dn p O) (e : ¬ p + qd_cn (fun i => K i = 2) n = n) (hs : n ≤ p ∨ ∀ j, j < n → qd_okd K D dn j) : qd_Cy n D := by
  obtain ⟨a1, a2, a3, a4, a5⟩ := h
  have c := qd_cn_or (P := fun i => bt dn i = true) (Q := fun i => K i = 2) (N := n) (fun k _ hb => (a3 k hb).2.1)
  rw [a5] at c
  have le := qd_cn_le (fun k => bt dn k = true ∨ K k = 2) n
  have st : ∀ j, j < n → qd_okd K D dn j := by
    rcases hs with z | z
    · omega
    · exact z
  obtain ⟨i, hi, hp⟩ := qd_cn_ex (P := fun k => bt dn k = true ∨ K k = 2) (N := n) (by omega)
  refine ⟨fun i => i < n ∧ ¬ K i = 2 ∧ ¬ bt dn i = true, ⟨i, hi, fun z => hp (Or.inr z), fun z => hp (Or.inl z)⟩, fun i ⟨b1, b2, b3⟩ => ⟨b1, ?_⟩⟩
  rcases st i b1 with z | z | ⟨j, c1, c2, c3⟩
  · exact absurd z b2
  · exact absurd z b3
  · exact ⟨j, ⟨(hD i j b1 c1).1, c2, c3⟩, c1⟩
theorem qd_dep2 (wf : qd_WF n K A S B T N) : ∀ i j, i < n → qd_dep n K A B T N i j → j < n ∧ ¬ K i = 2 := by
  intro i j hi hd
  refine ⟨hd.1, fun h2 => ?_⟩
  obtain ⟨k, t, hk, hK, ht, hT, h10, -⟩ := wf.2 i hi
  have k2 : k = 2 := by
    rw [hK] at h2
    exact (nI_eq (b := 2) (by omega) (by omega)).mp h2
  have kk : (K i).toNatClampNeg = 2 := by rw [hK, k2]; exact nI_clamp (by omega)
  have kt : (T i).toNatClampNeg = 0 := by rw [hT, h10 (by omega)]; exact nI_clamp (by omega)
  rcases hd.2 with z | z | ⟨u, hu, -⟩
  · omega
  · omega
  · omega
/-! the component: which nodes a node names -/
theorem qd_bclr {a : Nat} (ha : a < 32) (x : Int32) (b : Nat) : bt (x &&& (((1 : Int32) <<< (nI a &&& 31)) ^^^ (-1))) b = true ↔ (bt x b = true ∧ b ≠ a) := by
  rw [qd_band, qd_bnot, qd_b1i ha]
  exact ⟨fun h => ⟨h.1, h.2.2⟩, fun h => ⟨h.1, qd_b32 h.1, h.2⟩⟩
theorem qd_x98 (hn : n ≤ 20) {post : Int32 → Prop} :
    ∀ d j x, j + d = 20 → (∀ r, (∀ b, bt r b = true ↔ (bt x b = true ∧ ¬ (j ≤ b ∧ b < 20 ∧ (n ≤ b ∨ K b = 2)))) → post r) → wX_namedBy_98 post (nI n) co so pl ce hc ac sc K A S T N F O op od cf C (d + 1) x (nI j) := by
  intro d
  induction d with
  | zero =>
    intro j x hj h
    have e : j = 20 := by omega
    subst e
    have c1 : (20 : Int32) ≤ nI 20 := by decide
    simp only [wX_namedBy_98, c1, true_implies, not_true, false_implies, and_true]
    exact h x (fun b => ⟨fun z => ⟨z, fun y => by omega⟩, fun z => z.1⟩)
  | succ d ih =>
    generalize hf : d + 1 = f at ih ⊢
    intro j x hj h
    have c1 : ¬ (20 : Int32) ≤ nI j := nI_ge (b := 20) (by omega) (by omega)
    have v1 : vp_in (nI j) 20 := vp_in_nI (by omega) (by omega)
    have k1 : (nI j).toNatClampNeg = j := nI_clamp (by omega)
    have clr : (n ≤ j ∨ K j = 2) → wX_namedBy_98 post (nI n) co so pl ce hc ac sc K A S T N F O op od cf C f (x &&& (((1 : Int32) <<< (nI j &&& 31)) ^^^ (-1))) (nI (j + 1)) := by
      intro hc
      refine ih (j + 1) _ (by omega) (fun r hr => h r (fun b => ?_))
      rw [hr b, qd_bclr (by omega)]
      constructor
      · rintro ⟨⟨z1, z2⟩, z3⟩
        exact ⟨z1, fun y => z3 ⟨by omega, y.2⟩⟩
      · rintro ⟨z1, z2⟩
        refine ⟨⟨z1, fun y => z2 ?_⟩, fun y => z2 ⟨by omega, y.2⟩⟩
        subst y
        exact ⟨Nat.le_refl _, by omega, hc⟩
    by_cases z1 : n ≤ j
    · have c2 : nI n ≤ nI j := nI_le z1 (by omega)
      simp only [wX_namedBy_98, wX_namedBy_125, c1, c2, not_false_iff, not_true, true_implies, false_implies, true_and, and_true, forall_eq, nI_1]
      exact clr (Or.inl z1)
    · have c2 : ¬ nI n ≤ nI j := nI_ge (by omega) (by omega)
      by_cases z2 : K j = 2
      · have c3 := eq_true z2
        simp only [wX_namedBy_98, wX_namedBy_125, c1, c2, v1, k1, c3, not_false_iff, not_true, true_implies, false_implies, true_and, and_true, forall_eq, nI_1]
        exact clr (Or.inr z2)
      · simp only [wX_namedBy_98, wX_namedBy_125, c1, c2, v1, k1, z2, not_false_iff, not_true, true_implies, false_implies, true_and, and_true, forall_eq, nI_1]
        refine ih (j + 1) _ (by omega) (fun r hr => h r (fun b => ?_))
        rw [hr b]
        constructor
        · rintro ⟨y1, y2⟩
          refine ⟨y1, fun y => ?_⟩
          rcases Nat.lt_or_ge j b with w | w
          · exact y2 ⟨w, y.2⟩
          · have e : b = j := by omega
            subst e
            rcases y.2.2 with u | u
            · exact z1 u
            · exact z2 u
        · rintro ⟨y1, y2⟩
          exact ⟨y1, fun y => y2 ⟨by omega, y.2⟩⟩
theorem qd_x61 (hn : n ≤ 20) {i t : Nat} (hi : i < n) (hT : T i = nI t) (ht : t ≤ 6) {post : Int32 → Prop} {x : Int32} (h : ∃ n98, wX_namedBy_98 post (nI n) co so pl ce hc ac sc K A S T N F O op od cf C n98 (qd_ns N i x t) 0) :
    ∀ d u, u + d = t → wX_namedBy_61 post (nI i) (nI n) co so pl ce hc ac sc K A S T N F O op od cf C (d + 1) (qd_ns N i x u) (nI u) := by
  intro d
  have v1 : vp_in (nI i) 20 := vp_in_nI (by omega) (by omega)
  have k1 : (nI i).toNatClampNeg = i := nI_clamp (by omega)
  induction d with
  | zero =>
    intro u hu
    have e : u = t := by omega
    subst e
    have c1 : nI u ≤ nI u := nI_le (Nat.le_refl _) (by omega)
    simp only [wX_namedBy_61, v1, k1, hT, c1, true_implies, not_true, false_implies, and_true, true_and]
    exact h
  | succ d ih =>
    generalize hf : d + 1 = f at ih ⊢
    intro u hu
    have v2 : vp_in (nI (6 * i + u)) 120 := vp_in_nI (by omega) (by omega)
    have k2 : (nI (6 * i + u)).toNatClampNeg = 6 * i + u := nI_clamp (by omega)
    have c1 : ¬ nI t ≤ nI u := nI_ge (by omega) (by omega)
    simp only [wX_namedBy_61, v1, k1, hT, c1, qd_6, v2, k2, not_false_iff, true_implies, false_implies, true_and, forall_eq, nI_1]
    exact ih (u + 1) (by omega)
theorem qd_x52 (wf : qd_WF n K A S B T N) {i : Nat} (hi : i < n) {x : Int32}
    (hx : ∀ j, bt x j = true ↔ ((3 ≤ (K i).toNatClampNeg ∧ (K i).toNatClampNeg ≤ 9 ∧ j = (A i).toNatClampNeg) ∨ (3 ≤ (K i).toNatClampNeg ∧ (K i).toNatClampNeg ≤ 5 ∧ j = (B i).toNatClampNeg)))
    {post : Int32 → Prop} (h : ∀ r, (∀ j, bt r j = true ↔ (qd_dep n K A B T N i j ∧ ¬ K j = 2)) → post r) : wX_namedBy_52 post (nI i) (K i) x (nI n) co so pl ce hc ac sc K A S T N F O op od cf C := by
  have hn := wf.1
  obtain ⟨k, t, hk, hK, ht, hT, h10, -, hA, hB, -, -, hN⟩ := wf.2 i hi
  have kk : (K i).toNatClampNeg = k := by rw [hK]; exact nI_clamp (by omega)
  have kt : (T i).toNatClampNeg = t := by rw [hT]; exact nI_clamp (by omega)
  have ex : ∃ n98, wX_namedBy_98 post (nI n) co so pl ce hc ac sc K A S T N F O op od cf C n98 (qd_ns N i x t) 0 := by
    refine ⟨20 + 1, qd_x98 hn 20 0 _ (by omega) (fun r hr => h r (fun b => ?_))⟩
    rw [hr b, qd_ns_b hN, hx b]
    unfold qd_dep
    rw [kt]
    have b20 : (((3 ≤ (K i).toNatClampNeg ∧ (K i).toNatClampNeg ≤ 9 ∧ b = (A i).toNatClampNeg) ∨ (3 ≤ (K i).toNatClampNeg ∧ (K i).toNatClampNeg ≤ 5 ∧ b = (B i).toNatClampNeg)) ∨ ∃ u, u < t ∧ b = (N (6 * i + u)).toNatClampNeg) → b < 20 := by
      rintro ((⟨z1, z2, z3⟩ | ⟨z1, z2, z3⟩) | ⟨u, hu, z3⟩)
      · obtain ⟨a, ha, ea⟩ := hA (by omega) (by omega)
        rw [ea, nI_clamp (by omega)] at z3
        omega
      · obtain ⟨a, ha, ea, -⟩ := hB (by omega) (by omega)
        rw [ea, nI_clamp (by omega)] at z3
        omega
      · obtain ⟨a, ha, ea⟩ := hN u hu
        rw [ea, nI_clamp (by omega)] at z3
        omega
    constructor
    · rintro ⟨z1, z2⟩
      have hb := b20 z1
      have hbn : b < n := by
        apply Classical.byContradiction
        intro y
        exact z2 ⟨Nat.zero_le _, hb, Or.inl (by omega)⟩
      refine ⟨⟨hbn, ?_⟩, fun y => z2 ⟨Nat.zero_le _, hb, Or.inr y⟩⟩
      rcases z1 with (y | y) | y
      · exact Or.inl y
      · exact Or.inr (Or.inl y)
      · exact Or.inr (Or.inr y)
    · rintro ⟨⟨z1, z2⟩, z3⟩
      refine ⟨?_, fun y => ?_⟩
      · rcases z2 with y | y | y
        · exact Or.inl (Or.inl y)
        · exact Or.inl (Or.inr y)
        · exact Or.inr y
      · rcases y.2.2 with w | w
        · omega
        · exact z3 w
  unfold wX_namedBy_52
  refine br_c (fun _ => ⟨t + 1, qd_x61 hn hi hT ht ex t 0 (by omega)⟩) (fun hne => ?_)
  have t0 : t = 0 := by
    apply h10
    intro e
    subst e
    exact hne hK
  subst t0
  exact ex
theorem qd_xN (wf : qd_WF n K A S B T N) {i : Nat} (hi : i < n) {post : Int32 → Prop} (h : ∀ r, (∀ j, bt r j = true ↔ (qd_dep n K A B T N i j ∧ ¬ K j = 2)) → post r) : wpX_namedBy post ((nI n), co, so, pl, ce, hc, ac, sc, K, A, S, T, N, F, O, op, od, cf, C) (nI i) := by
  have hn := wf.1
  obtain ⟨k, t, hk, hK, ht, hT, -, -, hA, hB, -, -, hN⟩ := wf.2 i hi
  have v1 : vp_in (nI i) 20 := vp_in_nI (by omega) (by omega)
  have k1 : (nI i).toNatClampNeg = i := nI_clamp (by omega)
  have kk : (K i).toNatClampNeg = k := by rw [hK]; exact nI_clamp (by omega)
  by_cases z1 : 3 ≤ k ∧ k ≤ 9
  · obtain ⟨a, ha, eA⟩ := hA (by omega) z1.2
    have ka : (A i).toNatClampNeg = a := by rw [eA]; exact nI_clamp (by omega)
    have c1 : ¬ K i < 3 := by rw [hK]; exact nI_nlt (b := 3) z1.1 (by omega)
    have c2 : ¬ 9 < K i := by rw [hK]; exact nI_nlt (a := 9) z1.2 (by omega)
    by_cases z2 : k ≤ 5
    · obtain ⟨b, hb, eB, eS⟩ := hB z1.1 z2
      have kb : (B i).toNatClampNeg = b := by rw [eB]; exact nI_clamp (by omega)
      have c3 : ¬ 5 < K i := by rw [hK]; exact nI_nlt (a := 5) z2 (by omega)
      simp only [wpX_namedBy, wX_namedBy_31, v1, k1, c1, c2, c3, eA, eS, not_false_iff, true_implies, false_implies, true_and, forall_eq]
      refine qd_x52 wf hi (fun j => ?_) h
      rw [qd_bor, qd_bor, qd_b1i (by omega), qd_b1i (by omega), b_0, kk, ka, kb]
      constructor
      · rintro ((y | y) | y)
        · exact absurd y (by decide)
        · exact Or.inl ⟨z1.1, z1.2, y⟩
        · exact Or.inr ⟨z1.1, z2, y⟩
      · rintro (y | y)
        · exact Or.inl (Or.inr y.2.2)
        · exact Or.inr y.2.2
    · have c3 : 5 < K i := by rw [hK]; exact nI_lt (a := 5) (by omega) (by omega)
      simp only [wpX_namedBy, wX_namedBy_31, v1, k1, c1, c2, c3, eA, not_false_iff, not_true, true_implies, false_implies, true_and, and_true, forall_eq]
      refine qd_x52 wf hi (fun j => ?_) h
      rw [qd_bor, qd_b1i (by omega), b_0, kk, ka]
      constructor
      · rintro (y | y)
        · exact absurd y (by decide)
        · exact Or.inl ⟨z1.1, z1.2, y⟩
      · rintro (y | y)
        · exact Or.inr y.2.2
        · exact absurd y.2.1 z2
  · have hb0 : ∀ j, bt 0 j = true ↔ ((3 ≤ (K i).toNatClampNeg ∧ (K i).toNatClampNeg ≤ 9 ∧ j = (A i).toNatClampNeg) ∨ (3 ≤ (K i).toNatClampNeg ∧ (K i).toNatClampNeg ≤ 5 ∧ j = (B i).toNatClampNeg)) := by
      intro j
      rw [b_0, kk]
      constructor
      · intro y; exact absurd y (by decide)
      · rintro (y | y)
        · exact absurd ⟨y.1, y.2.1⟩ z1
        · exact absurd ⟨y.1, by omega⟩ z1
    by_cases z2 : k < 3
    · have c1 : K i < 3 := by rw [hK]; exact nI_lt (b := 3) z2 (by omega)
      simp only [wpX_namedBy, wX_namedBy_31, v1, k1, c1, not_false_iff, not_true, true_implies, false_implies, true_and, and_true, forall_eq]
      exact qd_x52 wf hi hb0 h
    · have c1 : ¬ K i < 3 := by rw [hK]; exact nI_nlt (b := 3) (by omega) (by omega)
      have c2 : 9 < K i := by rw [hK]; exact nI_lt (a := 9) (by omega) (by omega)
      have c3 : 5 < K i := by rw [hK]; exact nI_lt (a := 5) (by omega) (by omega)
      simp only [wpX_namedBy, wX_namedBy_31, v1, k1, c1, c2, c3, not_false_iff, not_true, true_implies, false_implies, true_and, and_true, forall_eq]
      exact qd_x52 wf hi hb0 h
end
section
variable {n : Nat} {co so pl ce hc sc : Int32} {ac : Int64} {K A S B T N F O op od cf C : Nat → Int32}
/-! the component: placing -/
theorem qd_x51 (wf : qd_WF n K A S B T N) {r : Nat} {x2 : Int32} {post : Int32 → SX → Prop}
    {J : Int32 → Int32 → Int32 → (Nat → Int32) → (Nat → Int32) → (Nat → Int32) → (Nat → Int32) → (Nat → Int32) → (Nat → Int32) → (Nat → Int32) → (Nat → Int32) → (Nat → Int32) → (Nat → Int32) → (Nat → Int32) → Prop}
    (h : ∀ dn' p' O', qd_OI n K (qd_dep n K A B T N) dn' p' O' → (r + 1 ≤ p' ∨ ∀ j, j < n → qd_okd K (qd_dep n K A B T N) dn' j) → J dn' (nI (r + 1)) (nI p') K A S T N F O' op od cf C) :
    ∀ d i dn p O, i + d = n → qd_OI n K (qd_dep n K A B T N) dn p O → (r + 1 ≤ p ∨ (r ≤ p ∧ ∀ j, j < i → qd_okd K (qd_dep n K A B T N) dn j) ∨ (∀ j, j < n → qd_okd K (qd_dep n K A B T N) dn j)) →
      wX_orderNodes_51 post J x2 (nI r) (nI n) co so ce hc ac sc (d + 1) dn (nI i) (nI p) K A S T N F O op od cf C := by
  have hn := wf.1
  intro d
  induction d with
  | zero =>
    intro i dn p O hi oi st
    have en : i = n := by omega
    subst en
    have c1 : nI i ≤ nI i := nI_le (Nat.le_refl _) (by omega)
    simp only [wX_orderNodes_51, c1, true_implies, not_true, false_implies, and_true, forall_eq, nI_1]
    refine h dn p O oi ?_
    rcases st with z | z | z
    · exact Or.inl z
    · exact Or.inr z.2
    · exact Or.inr z
  | succ d ih =>
    generalize hf : d + 1 = f at ih ⊢
    intro i dn p O hi oi st
    have hin : i < n := by omega
    have c1 : ¬ nI n ≤ nI i := nI_ge (by omega) (by omega)
    have v1 : vp_in (nI i) 20 := vp_in_nI (by omega) (by omega)
    have k1 : (nI i).toNatClampNeg = i := nI_clamp (by omega)
    have skip : qd_okd K (qd_dep n K A B T N) dn i → wX_orderNodes_51 post J x2 (nI r) (nI n) co so ce hc ac sc f dn (nI (i + 1)) (nI p) K A S T N F O op od cf C := by
      intro ok
      refine ih (i + 1) dn p O (by omega) oi ?_
      rcases st with z | z | z
      · exact Or.inl z
      · refine Or.inr (Or.inl ⟨z.1, fun j hj => ?_⟩)
        rcases Nat.lt_or_ge j i with y | y
        · exact z.2 j y
        · have e : j = i := by omega
          subst e
          exact ok
      · exact Or.inr (Or.inr z)
    by_cases z2 : K i = 2
    · have c2 := eq_true z2
      simp only [wX_orderNodes_51, c1, v1, k1, c2, not_false_iff, not_true, true_implies, false_implies, true_and, and_true, forall_eq, nI_1]
      exact skip (Or.inl z2)
    · by_cases z3 : bt dn i = true
      · have c3 : ¬ ((dn >>> (nI i &&& 31)) &&& 1) = 0 := by
          rw [qd_bt1 dn (m := i) (by omega) z3]
          decide
        simp only [wX_orderNodes_51, c1, v1, k1, z2, c3, not_false_iff, not_true, true_implies, false_implies, true_and, and_true, forall_eq, nI_1]
        exact skip (Or.inr (Or.inl z3))
      · have c3 := qd_bt0 dn (m := i) (by omega) z3
        simp only [wX_orderNodes_51, c1, v1, k1, z2, c3, not_false_iff, not_true, true_implies, false_implies, true_and, and_true, forall_eq, nI_1]
        refine qd_xN wf hin (fun r' hr' => ?_)
        by_cases z4 : (r' &&& (dn ^^^ (-1))) = 0
        · refine br_t z4 ?_
          have hD : ∀ j, qd_dep n K A B T N i j → ¬ K j = 2 → bt dn j = true := fun j hj hj2 => (qd_sub0 r' dn).mp z4 j ((hr' j).mpr ⟨hj, hj2⟩)
          obtain ⟨hp, oi'⟩ := qd_OI_s hn hin z2 z3 hD oi
          have v2 : vp_in (nI p) 20 := vp_in_nI (by omega) (by omega)
          have k2 : (nI p).toNatClampNeg = p := nI_clamp (by omega)
          have k3 : vp_nar .byte (nI i).toInt8.toInt32 = nI i := qd_narb (by omega)
          rw [k2, k3]
          refine ⟨v2, ih (i + 1) _ (p + 1) _ (by omega) oi' ?_⟩
          rcases st with z | z | z
          · exact Or.inl (by omega)
          · exact Or.inl (by omega)
          · rcases z i hin with y | y | ⟨j, y1, y2, y3⟩
            · exact absurd y z2
            · exact absurd y z3
            · exact absurd (hD j y1 y2) y3
        · refine br_f z4 (skip (Or.inr (Or.inr ?_)))
          apply Classical.byContradiction
          intro hne
          apply z4
          rw [qd_sub0]
          intro j hj
          apply Classical.byContradiction
          intro hb
          obtain ⟨y1, y2⟩ := (hr' j).mp hj
          exact hne ⟨j, y1, y2, hb⟩
theorem qd_x40 (wf : qd_WF n K A S B T N) {dl : Nat} (hdl : dl ≤ 20) {post : Int32 → SX → Prop}
    (h1 : ∀ dn p O, qd_OI n K (qd_dep n K A B T N) dn p O → p + dl = n → post 1 ((nI n), co, so, nI p, ce, hc, ac, sc, K, A, S, T, N, F, O, op, od, cf, C))
    (h0 : ∀ dn p O, qd_OI n K (qd_dep n K A B T N) dn p O → ¬ p + dl = n → (n ≤ p ∨ ∀ j, j < n → qd_okd K (qd_dep n K A B T N) dn j) → post 0 ((nI n), co, so, nI p, ce, hc, ac, sc, K, A, S, T, N, F, O, op, od, cf, C)) :
    ∀ d r dn p O, r + d = n → qd_OI n K (qd_dep n K A B T N) dn p O → (r ≤ p ∨ ∀ j, j < n → qd_okd K (qd_dep n K A B T N) dn j) →
      wX_orderNodes_40 post (nI dl) (nI n) co so ce hc ac sc (d + 1) dn (nI r) (nI p) K A S T N F O op od cf C := by
  have hn := wf.1
  intro d
  induction d with
  | zero =>
    intro r dn p O hr oi st
    have en : r = n := by omega
    subst en
    have c1 : nI r ≤ nI r := nI_le (Nat.le_refl _) (by omega)
    simp only [wX_orderNodes_40, c1, true_implies, not_true, false_implies, and_true, nI_add]
    have hp : p ≤ r := by rw [← oi.2.2.2.2]; exact qd_cn_le _ _
    refine pk_eq (p + dl) r (fun e => h1 dn p O oi e) (fun e => h0 dn p O oi e st)
  | succ d ih =>
    generalize hf : d + 1 = f at ih ⊢
    intro r dn p O hr oi st
    have c1 : ¬ nI n ≤ nI r := nI_ge (by omega) (by omega)
    simp only [wX_orderNodes_40, c1, not_false_iff, true_implies, false_implies, true_and]
    refine ⟨n + 1, qd_x51 wf (r := r) (fun dn' p' O' oi' st' => ih (r + 1) dn' p' O' (by omega) oi' st') n 0 dn p O (by omega) oi ?_⟩
    rcases st with z | z
    · exact Or.inr (Or.inl ⟨z, fun j hj => by omega⟩)
    · exact Or.inr (Or.inr z)
theorem qd_x11 (hn : n ≤ 20) {x1 : Int32} {post : Int32 → SX → Prop}
    (h : ∃ n40, wX_orderNodes_40 post (nI (qd_cn (fun i => K i = 2) n)) (nI n) co so ce hc ac sc n40 x1 0 pl K A S T N F O op od cf C) :
    ∀ d i, i + d = n → wX_orderNodes_11 post x1 (nI n) co so pl ce hc ac sc K A S T N F O op od cf C (d + 1) (nI (qd_cn (fun i => K i = 2) i)) (nI i) := by
  intro d
  induction d with
  | zero =>
    intro i hi
    have en : i = n := by omega
    subst en
    have c1 : nI i ≤ nI i := nI_le (Nat.le_refl _) (by omega)
    simp only [wX_orderNodes_11, c1, true_implies, not_true, false_implies, and_true]
    exact h
  | succ d ih =>
    generalize hf : d + 1 = f at ih ⊢
    intro i hi
    have c1 : ¬ nI n ≤ nI i := nI_ge (by omega) (by omega)
    have v1 : vp_in (nI i) 20 := vp_in_nI (by omega) (by omega)
    have k1 : (nI i).toNatClampNeg = i := nI_clamp (by omega)
    have hh := ih (i + 1) (by omega)
    simp only [qd_cn] at hh
    by_cases z2 : K i = 2
    · have c2 := eq_true z2
      rw [qd_b01_t z2] at hh
      simp only [wX_orderNodes_11, c1, v1, k1, c2, not_false_iff, not_true, true_implies, false_implies, true_and, and_true, forall_eq, nI_1]
      exact hh
    · rw [qd_b01_f z2] at hh
      simp only [wX_orderNodes_11, c1, v1, k1, z2, not_false_iff, not_true, true_implies, false_implies, true_and, and_true, forall_eq, nI_1]
      exact hh
/-- what the order must be -/
def qd_Ord (n : Nat) (K : Nat → Int32) (D : Nat → Nat → Prop) (p : Nat) (O : Nat → Int32) : Prop :=
  p ≤ n ∧ (∀ q, q < p → ∃ i, i < n ∧ O q = nI i ∧ ¬ K i = 2 ∧ ∀ j, D i j → K j = 2 ∨ ∃ q', q' < q ∧ O q' = nI j) ∧
  (∀ q q', q < q' → q' < p → ¬ O q = O q') ∧ (∀ i, i < n → ¬ K i = 2 → ∃ q, q < p ∧ O q = nI i) ∧ qd_Rk n D
theorem qd_xO (wf : qd_WF n K A S B T N) {post : Int32 → SX → Prop}
    (h1 : ∀ p O, qd_Ord n K (qd_dep n K A B T N) p O → post 1 ((nI n), co, so, nI p, ce, hc, ac, sc, K, A, S, T, N, F, O, op, od, cf, C))
    (h0 : ∀ p O, qd_Cy n (qd_dep n K A B T N) → post 0 ((nI n), co, so, nI p, ce, hc, ac, sc, K, A, S, T, N, F, O, op, od, cf, C)) : wpX_orderNodes post ((nI n), co, so, pl, ce, hc, ac, sc, K, A, S, T, N, F, O, op, od, cf, C) := by
  have hn := wf.1
  have hd : qd_cn (fun i => K i = 2) n ≤ 20 := Nat.le_trans (qd_cn_le _ _) hn
  refine ⟨n + 1, qd_x11 hn ⟨n + 1, qd_x40 wf hd (fun dn p O oi e => h1 p O ⟨by omega, oi.1, oi.2.1, qd_OI_cov oi e, qd_OI_rk hn (qd_dep2 wf) oi e⟩) (fun dn p O oi e st => h0 p O (qd_OI_cy (qd_dep2 wf) oi e st)) n 0 0 0 O (by omega) qd_OI_0 (Or.inl (Nat.zero_le _))⟩ n 0 (by omega)⟩
end
section
variable {n : Nat} {K A S B T N F : Nat → Int32}
/-! numbers within sixteen bits -/
def qd_rg (x : Int32) : Prop := -32768 ≤ x.toInt ∧ x.toInt ≤ 32767
theorem qd_rg0 : qd_rg 0 := by
  have h : (0 : Int32).toInt = 0 := by decide
  unfold qd_rg
  omega
theorem qd_shp32 {P m : Nat} {x : Int} (hm : m = 1 ∨ m = 2 ∨ m = 4 ∨ m = 8 ∨ m = 16 ∨ m = 32 ∨ m = 64 ∨ m = 128) (hP : P < 4294967296) (hx : x = if 2 * P < 4294967296 then (P : Int) else (P : Int) - 4294967296) (r1 : -32768 ≤ x) (r2 : x ≤ 32767) :
    (if 2 * (P * m % 4294967296) < 4294967296 then ((P * m % 4294967296 : Nat) : Int) else ((P * m % 4294967296 : Nat) : Int) - 4294967296) = x * (m : Int) := by
  by_cases z : 2 * P < 4294967296
  · rw [if_pos z] at hx
    rcases hm with rfl | rfl | rfl | rfl | rfl | rfl | rfl | rfl <;> (rw [if_pos (by omega)]; omega)
  · rw [if_neg z] at hx
    by_cases y : P = 4294967296
    · omega
    · rcases hm with rfl | rfl | rfl | rfl | rfl | rfl | rfl | rfl <;> (rw [if_neg (by omega)]; omega)
theorem qd_shp64 {P m : Nat} {x : Int} (hm : m = 1 ∨ m = 2 ∨ m = 4 ∨ m = 8 ∨ m = 16 ∨ m = 32 ∨ m = 64 ∨ m = 128) (hP : P < 18446744073709551616) (hx : x = if 2 * P < 18446744073709551616 then (P : Int) else (P : Int) - 18446744073709551616) (r1 : -32768 ≤ x) (r2 : x ≤ 32767) :
    (if 2 * (P * m % 18446744073709551616) < 18446744073709551616 then ((P * m % 18446744073709551616 : Nat) : Int) else ((P * m % 18446744073709551616 : Nat) : Int) - 18446744073709551616) = x * (m : Int) := by
  by_cases z : 2 * P < 18446744073709551616
  · rw [if_pos z] at hx
    rcases hm with rfl | rfl | rfl | rfl | rfl | rfl | rfl | rfl <;> (rw [if_pos (by omega)]; omega)
  · rw [if_neg z] at hx
    rcases hm with rfl | rfl | rfl | rfl | rfl | rfl | rfl | rfl <;> (rw [if_neg (by omega)]; omega)
theorem qd_pw {b : Nat} (hb : b < 8) : 2 ^ b = 1 ∨ 2 ^ b = 2 ∨ 2 ^ b = 4 ∨ 2 ^ b = 8 ∨ 2 ^ b = 16 ∨ 2 ^ b = 32 ∨ 2 ^ b = 64 ∨ 2 ^ b = 128 := by
  rcases (by omega : b = 0 ∨ b = 1 ∨ b = 2 ∨ b = 3 ∨ b = 4 ∨ b = 5 ∨ b = 6 ∨ b = 7) with rfl | rfl | rfl | rfl | rfl | rfl | rfl | rfl <;> decide
theorem qd_shl32 {p : Int32} (hp : qd_rg p) {b : Nat} (hb : b < 8) : (p <<< (nI b &&& 31)).toInt = p.toInt * ((2 ^ b : Nat) : Int) := by
  have h1 := pk_shl p (nI b &&& 31) b (s_l b (by omega))
  have e2 : (p <<< (nI b &&& 31)).toInt = if 2 * (p <<< (nI b &&& 31)).toBitVec.toNat < 4294967296 then ((p <<< (nI b &&& 31)).toBitVec.toNat : Int) else ((p <<< (nI b &&& 31)).toBitVec.toNat : Int) - 4294967296 := BitVec.toInt_eq_toNat_cond _
  rw [e2, h1]
  exact qd_shp32 (qd_pw hb) p.toBitVec.isLt (BitVec.toInt_eq_toNat_cond p.toBitVec) hp.1 hp.2
theorem qd_s64 : ∀ b, b < 32 → (((nI b).toInt64 &&& 63).toBitVec.smod 64).toNat = b := by decide +kernel
theorem qd_shl64n (a s : Int64) (k : Nat) (hs : (s.toBitVec.smod 64).toNat = k) : (a <<< s).toBitVec.toNat = a.toBitVec.toNat * 2 ^ k % 2 ^ 64 := by
  show (a.toBitVec <<< (s.toBitVec.smod 64).toNat).toNat = _
  rw [hs, BitVec.toNat_shiftLeft, Nat.shiftLeft_eq]
theorem qd_shl64 {v : Int64} (r1 : -32768 ≤ v.toInt) (r2 : v.toInt ≤ 32767) {b : Nat} (hb : b < 8) : (v <<< ((nI b).toInt64 &&& 63)).toInt = v.toInt * ((2 ^ b : Nat) : Int) := by
  have h1 := qd_shl64n v ((nI b).toInt64 &&& 63) b (qd_s64 b (by omega))
  have e2 : (v <<< ((nI b).toInt64 &&& 63)).toInt = if 2 * (v <<< ((nI b).toInt64 &&& 63)).toBitVec.toNat < 18446744073709551616 then ((v <<< ((nI b).toInt64 &&& 63)).toBitVec.toNat : Int) else ((v <<< ((nI b).toInt64 &&& 63)).toBitVec.toNat : Int) - 18446744073709551616 := BitVec.toInt_eq_toNat_cond _
  rw [e2, h1]
  exact qd_shp64 (qd_pw hb) v.toBitVec.isLt (BitVec.toInt_eq_toNat_cond v.toBitVec) r1 r2
theorem qd_shl {p : Int32} (hp : qd_rg p) {b : Nat} (hb : b < 8) : p.toInt64 <<< ((nI b).toInt64 &&& 63) = (p <<< (nI b &&& 31)).toInt64 := by
  apply Int64.toInt_inj.mp
  rw [Int32.toInt_toInt64, qd_shl32 hp hb, qd_shl64 (by rw [Int32.toInt_toInt64]; exact hp.1) (by rw [Int32.toInt_toInt64]; exact hp.2) hb, Int32.toInt_toInt64]
theorem qd_shr64 (a s : Int64) (k : Nat) (hs : (s.toBitVec.smod 64).toNat = k) : (a >>> s).toInt = a.toInt >>> k := by
  rw [← hs]
  exact BitVec.toInt_sshiftRight ..
theorem qd_shr {p : Int32} {b : Nat} (hb : b < 16) : p.toInt64 >>> ((nI b).toInt64 &&& 63) = (p >>> (nI b &&& 31)).toInt64 := by
  apply Int64.toInt_inj.mp
  rw [Int32.toInt_toInt64, qd_shr64 _ _ b (qd_s64 b (by omega)), pk_shr _ _ b (s_l b (by omega)), Int32.toInt_toInt64]
theorem qd_dvr {x m : Int} (hm : 1 ≤ m) (r1 : -32768 ≤ x) (r2 : x ≤ 32767) : -32768 ≤ x / m ∧ x / m ≤ 32767 :=
  ⟨Int.le_ediv_of_mul_le (by omega) (by omega), Int.ediv_le_of_le_mul (by omega) (by omega)⟩
theorem qd_shr_rg {p : Int32} (hp : qd_rg p) {b : Nat} (hb : b < 16) : qd_rg (p >>> (nI b &&& 31)) := by
  unfold qd_rg
  rw [pk_shr _ _ b (s_l b (by omega)), Int.shiftRight_eq_div_pow]
  have h1 : 1 ≤ 2 ^ b := Nat.one_le_two_pow
  exact qd_dvr (by omega) hp.1 hp.2
theorem qd_l1 : (32767 : Int64).toInt = 32767 := by decide
theorem qd_l2 : (-32768 : Int64).toInt = -32768 := by decide
theorem qd_i1 : (32767 : Int32).toInt = 32767 := by decide
theorem qd_i2 : (-32768 : Int32).toInt = -32768 := by decide
theorem qd_in64 {v : Int64} (r1 : -32768 ≤ v) (r2 : v ≤ 32767) : v.toInt32.toInt = v.toInt := by
  rw [Int64.le_iff_toInt_le, qd_l2] at r1
  rw [Int64.le_iff_toInt_le, qd_l1] at r2
  rw [Int64.toInt_toInt32]
  exact Int.bmod_eq_of_le (by omega) (by omega)
def qd_sl (v : Int64) : Int64 := if v ≤ 32767 then (if -32768 ≤ v then v else -32768) else 32767
theorem qd_sl_s (v : Int64) : qd_sl v = (qd_sat v).toInt64 := by
  unfold qd_sl qd_sat
  by_cases h1 : v ≤ 32767
  · rw [if_pos h1, if_pos h1]
    by_cases h2 : -32768 ≤ v
    · rw [if_pos h2, if_pos h2]
      apply Int64.toInt_inj.mp
      rw [Int32.toInt_toInt64, qd_in64 h2 h1]
    · rw [if_neg h2, if_neg h2]
      decide
  · rw [if_neg h1, if_neg h1]
    decide
theorem qd_sl_i (v : Int64) : (qd_sl v).toInt32 = qd_sat v := by
  rw [qd_sl_s, Int32.toInt32_toInt64]
theorem qd_sat_rg (v : Int64) : qd_rg (qd_sat v) := by
  unfold qd_sat qd_rg
  by_cases h1 : v ≤ 32767
  · rw [if_pos h1]
    by_cases h2 : -32768 ≤ v
    · rw [if_pos h2, qd_in64 h2 h1]
      rw [Int64.le_iff_toInt_le, qd_l2] at h2
      rw [Int64.le_iff_toInt_le, qd_l1] at h1
      exact ⟨h2, h1⟩
    · rw [if_neg h2, qd_i2]
      omega
  · rw [if_neg h1, qd_i1]
    omega
theorem qd_add {p q : Int32} (hp : qd_rg p) (hq : qd_rg q) : p.toInt64 + q.toInt64 = (p + q).toInt64 := by
  obtain ⟨p1, p2⟩ := hp
  obtain ⟨q1, q2⟩ := hq
  apply Int64.toInt_inj.mp
  rw [Int64.toInt_add, Int32.toInt_toInt64, Int32.toInt_toInt64, Int32.toInt_toInt64, Int32.toInt_add]
  generalize p.toInt = x at *
  generalize q.toInt = y at *
  rw [Int.bmod_eq_of_le (by omega) (by omega), Int.bmod_eq_of_le (by omega) (by omega)]
theorem qd_sb {p q : Int32} (hp : qd_rg p) (hq : qd_rg q) : p.toInt64 - q.toInt64 = (p - q).toInt64 := by
  obtain ⟨p1, p2⟩ := hp
  obtain ⟨q1, q2⟩ := hq
  apply Int64.toInt_inj.mp
  rw [Int64.toInt_sub, Int32.toInt_toInt64, Int32.toInt_toInt64, Int32.toInt_toInt64, Int32.toInt_sub]
  generalize p.toInt = x at *
  generalize q.toInt = y at *
  rw [Int.bmod_eq_of_le (by omega) (by omega), Int.bmod_eq_of_le (by omega) (by omega)]
theorem qd_ng {p : Int32} (hp : qd_rg p) : -p.toInt64 = (-p).toInt64 := by
  obtain ⟨p1, p2⟩ := hp
  apply Int64.toInt_inj.mp
  rw [Int64.toInt_neg, Int32.toInt_toInt64, Int32.toInt_toInt64, Int32.toInt_neg]
  generalize p.toInt = x at *
  rw [Int.bmod_eq_of_le (by omega) (by omega), Int.bmod_eq_of_le (by omega) (by omega)]
theorem qd_le64 (p q : Int32) : p.toInt64 ≤ q.toInt64 ↔ p ≤ q := by
  rw [Int64.le_iff_toInt_le, Int32.le_iff_toInt_le, Int32.toInt_toInt64, Int32.toInt_toInt64]
theorem qd_0le (p : Int32) : 0 ≤ p.toInt64 ↔ 0 ≤ p := qd_le64 0 p
/-! what a node is worth lies within sixteen bits -/
theorem qd_at_rg {v : Nat → Int32} (hv : ∀ j, qd_rg (v j)) (x : Int32) : qd_rg (qd_at n v x) := by
  unfold qd_at
  split
  · exact qd_rg0
  · exact hv _
theorem qd_wv_rg (wf : qd_WF n K A S B T N) {i : Nat} (hi : i < n) {xi : Int32} {dv v : Nat → Int32} (hx : qd_rg xi) (hd : qd_rg (dv i)) (hv : ∀ j, qd_rg (v j)) : qd_rg (qd_wv n K A B T N F xi dv v i) := by
  obtain ⟨k, t, hk, hK, ht, hT, -, h1, hA, hB, h8, h9, hN⟩ := wf.2 i hi
  rcases qd_kinds hk with rfl | rfl | rfl | rfl | rfl | rfl | rfl | rfl | rfl | rfl | rfl
  · rw [qd_wv_0 hK]; exact hx
  · rw [qd_wv_1 hK]; exact h1 rfl
  · rw [qd_wv_2 hK]; exact hd
  · rw [qd_wv_3 hK]; exact qd_sat_rg _
  · rw [qd_wv_4 hK]; exact qd_sat_rg _
  · rw [qd_wv_5 hK]
    split
    · exact qd_at_rg hv _
    · exact qd_at_rg hv _
  · rw [qd_wv_6 hK]; exact qd_sat_rg _
  · rw [qd_wv_7 hK]
    split
    · exact qd_sat_rg _
    · exact qd_sat_rg _
  · rw [qd_wv_8 hK]; exact qd_sat_rg _
  · rw [qd_wv_9 hK]
    obtain ⟨b, hb, eb, -⟩ := h9 rfl
    rw [eb]
    exact qd_shr_rg (qd_at_rg hv _) hb
  · rw [qd_wv_10 hK]; exact qd_sat_rg _
end
section
variable {n : Nat} {fn co so pl ce hc sc : Int32} {ac : Int64} {K A S B T N F O op od cf C : Nat → Int32}
/-! the machine -/
def qd_ex (o c d : Int32) (s : Int64 × (Nat → Int32)) : Int64 × (Nat → Int32) :=
  if o = 0 then ((s.2 c.toNatClampNeg).toInt64, s.2) else
  if o = 1 then (d.toInt64, s.2) else
  if o = 2 then (s.1, upd s.2 c.toNatClampNeg s.1.toInt32) else
  if o = 3 then (s.1 + (s.2 c.toNatClampNeg).toInt64, s.2) else
  if o = 4 then (s.1 - (s.2 c.toNatClampNeg).toInt64, s.2) else
  if o = 10 then (s.1 + d.toInt64 * (s.2 c.toNatClampNeg).toInt64, s.2) else
  if o = 12 then (qd_sl s.1, s.2) else
  if o = 5 then ((if (s.2 c.toNatClampNeg).toInt64 ≤ s.1 then s.1 else (s.2 c.toNatClampNeg).toInt64), s.2) else
  if o = 6 then (-s.1, s.2) else
  if o = 7 then ((if 0 ≤ s.1 then s.1 else -s.1), s.2) else
  if o = 8 then (s.1 <<< (d.toInt64 &&& 63), s.2) else
  if o = 9 then (s.1 >>> (d.toInt64 &&& 63), s.2) else
  ((s.1 + 16384) >>> ((15 : Int32).toInt64 &&& 63), s.2)
theorem qd_ex_0 (c d : Int32) (s : Int64 × (Nat → Int32)) : qd_ex 0 c d s = ((s.2 c.toNatClampNeg).toInt64, s.2) := by
  unfold qd_ex
  rw [if_pos rfl]
theorem qd_ex_1 (c d : Int32) (s : Int64 × (Nat → Int32)) : qd_ex 1 c d s = (d.toInt64, s.2) := by
  unfold qd_ex
  rw [if_neg (show ¬ (1 : Int32) = 0 by decide), if_pos rfl]
theorem qd_ex_2 (c d : Int32) (s : Int64 × (Nat → Int32)) : qd_ex 2 c d s = (s.1, upd s.2 c.toNatClampNeg s.1.toInt32) := by
  unfold qd_ex
  rw [if_neg (show ¬ (2 : Int32) = 0 by decide), if_neg (show ¬ (2 : Int32) = 1 by decide), if_pos rfl]
theorem qd_ex_3 (c d : Int32) (s : Int64 × (Nat → Int32)) : qd_ex 3 c d s = (s.1 + (s.2 c.toNatClampNeg).toInt64, s.2) := by
  unfold qd_ex
  rw [if_neg (show ¬ (3 : Int32) = 0 by decide), if_neg (show ¬ (3 : Int32) = 1 by decide), if_neg (show ¬ (3 : Int32) = 2 by decide), if_pos rfl]
theorem qd_ex_4 (c d : Int32) (s : Int64 × (Nat → Int32)) : qd_ex 4 c d s = (s.1 - (s.2 c.toNatClampNeg).toInt64, s.2) := by
  unfold qd_ex
  rw [if_neg (show ¬ (4 : Int32) = 0 by decide), if_neg (show ¬ (4 : Int32) = 1 by decide), if_neg (show ¬ (4 : Int32) = 2 by decide), if_neg (show ¬ (4 : Int32) = 3 by decide), if_pos rfl]
theorem qd_ex_10 (c d : Int32) (s : Int64 × (Nat → Int32)) : qd_ex 10 c d s = (s.1 + d.toInt64 * (s.2 c.toNatClampNeg).toInt64, s.2) := by
  unfold qd_ex
  rw [if_neg (show ¬ (10 : Int32) = 0 by decide), if_neg (show ¬ (10 : Int32) = 1 by decide), if_neg (show ¬ (10 : Int32) = 2 by decide), if_neg (show ¬ (10 : Int32) = 3 by decide), if_neg (show ¬ (10 : Int32) = 4 by decide), if_pos rfl]
theorem qd_ex_12 (c d : Int32) (s : Int64 × (Nat → Int32)) : qd_ex 12 c d s = (qd_sl s.1, s.2) := by
  unfold qd_ex
  rw [if_neg (show ¬ (12 : Int32) = 0 by decide), if_neg (show ¬ (12 : Int32) = 1 by decide), if_neg (show ¬ (12 : Int32) = 2 by decide), if_neg (show ¬ (12 : Int32) = 3 by decide), if_neg (show ¬ (12 : Int32) = 4 by decide), if_neg (show ¬ (12 : Int32) = 10 by decide), if_pos rfl]
theorem qd_ex_5 (c d : Int32) (s : Int64 × (Nat → Int32)) : qd_ex 5 c d s = ((if (s.2 c.toNatClampNeg).toInt64 ≤ s.1 then s.1 else (s.2 c.toNatClampNeg).toInt64), s.2) := by
  unfold qd_ex
  rw [if_neg (show ¬ (5 : Int32) = 0 by decide), if_neg (show ¬ (5 : Int32) = 1 by decide), if_neg (show ¬ (5 : Int32) = 2 by decide), if_neg (show ¬ (5 : Int32) = 3 by decide), if_neg (show ¬ (5 : Int32) = 4 by decide), if_neg (show ¬ (5 : Int32) = 10 by decide), if_neg (show ¬ (5 : Int32) = 12 by decide), if_pos rfl]
theorem qd_ex_6 (c d : Int32) (s : Int64 × (Nat → Int32)) : qd_ex 6 c d s = (-s.1, s.2) := by
  unfold qd_ex
  rw [if_neg (show ¬ (6 : Int32) = 0 by decide), if_neg (show ¬ (6 : Int32) = 1 by decide), if_neg (show ¬ (6 : Int32) = 2 by decide), if_neg (show ¬ (6 : Int32) = 3 by decide), if_neg (show ¬ (6 : Int32) = 4 by decide), if_neg (show ¬ (6 : Int32) = 10 by decide), if_neg (show ¬ (6 : Int32) = 12 by decide), if_neg (show ¬ (6 : Int32) = 5 by decide), if_pos rfl]
theorem qd_ex_7 (c d : Int32) (s : Int64 × (Nat → Int32)) : qd_ex 7 c d s = ((if 0 ≤ s.1 then s.1 else -s.1), s.2) := by
  unfold qd_ex
  rw [if_neg (show ¬ (7 : Int32) = 0 by decide), if_neg (show ¬ (7 : Int32) = 1 by decide), if_neg (show ¬ (7 : Int32) = 2 by decide), if_neg (show ¬ (7 : Int32) = 3 by decide), if_neg (show ¬ (7 : Int32) = 4 by decide), if_neg (show ¬ (7 : Int32) = 10 by decide), if_neg (show ¬ (7 : Int32) = 12 by decide), if_neg (show ¬ (7 : Int32) = 5 by decide), if_neg (show ¬ (7 : Int32) = 6 by decide), if_pos rfl]
theorem qd_ex_8 (c d : Int32) (s : Int64 × (Nat → Int32)) : qd_ex 8 c d s = (s.1 <<< (d.toInt64 &&& 63), s.2) := by
  unfold qd_ex
  rw [if_neg (show ¬ (8 : Int32) = 0 by decide), if_neg (show ¬ (8 : Int32) = 1 by decide), if_neg (show ¬ (8 : Int32) = 2 by decide), if_neg (show ¬ (8 : Int32) = 3 by decide), if_neg (show ¬ (8 : Int32) = 4 by decide), if_neg (show ¬ (8 : Int32) = 10 by decide), if_neg (show ¬ (8 : Int32) = 12 by decide), if_neg (show ¬ (8 : Int32) = 5 by decide), if_neg (show ¬ (8 : Int32) = 6 by decide), if_neg (show ¬ (8 : Int32) = 7 by decide), if_pos rfl]
theorem qd_ex_9 (c d : Int32) (s : Int64 × (Nat → Int32)) : qd_ex 9 c d s = (s.1 >>> (d.toInt64 &&& 63), s.2) := by
  unfold qd_ex
  rw [if_neg (show ¬ (9 : Int32) = 0 by decide), if_neg (show ¬ (9 : Int32) = 1 by decide), if_neg (show ¬ (9 : Int32) = 2 by decide), if_neg (show ¬ (9 : Int32) = 3 by decide), if_neg (show ¬ (9 : Int32) = 4 by decide), if_neg (show ¬ (9 : Int32) = 10 by decide), if_neg (show ¬ (9 : Int32) = 12 by decide), if_neg (show ¬ (9 : Int32) = 5 by decide), if_neg (show ¬ (9 : Int32) = 6 by decide), if_neg (show ¬ (9 : Int32) = 7 by decide), if_neg (show ¬ (9 : Int32) = 8 by decide), if_pos rfl]
theorem qd_ex_11 (c d : Int32) (s : Int64 × (Nat → Int32)) : qd_ex 11 c d s = ((s.1 + 16384) >>> ((15 : Int32).toInt64 &&& 63), s.2) := by
  unfold qd_ex
  rw [if_neg (show ¬ (11 : Int32) = 0 by decide), if_neg (show ¬ (11 : Int32) = 1 by decide), if_neg (show ¬ (11 : Int32) = 2 by decide), if_neg (show ¬ (11 : Int32) = 3 by decide), if_neg (show ¬ (11 : Int32) = 4 by decide), if_neg (show ¬ (11 : Int32) = 10 by decide), if_neg (show ¬ (11 : Int32) = 12 by decide), if_neg (show ¬ (11 : Int32) = 5 by decide), if_neg (show ¬ (11 : Int32) = 6 by decide), if_neg (show ¬ (11 : Int32) = 7 by decide), if_neg (show ¬ (11 : Int32) = 8 by decide), if_neg (show ¬ (11 : Int32) = 9 by decide)]
def qd_rn (op od cf : Nat → Int32) : Nat → Int64 × (Nat → Int32) → Int64 × (Nat → Int32)
  | 0, s => s
  | m + 1, s => qd_ex (op m) (cf m) (od m) (qd_rn op od cf m s)
theorem qd_rn_c {op' od' cf' : Nat → Int32} (s : Int64 × (Nat → Int32)) : ∀ m, (∀ j, j < m → op' j = op j ∧ od' j = od j ∧ cf' j = cf j) → qd_rn op' od' cf' m s = qd_rn op od cf m s
  | 0, _ => rfl
  | m + 1, h => by
    obtain ⟨h1, h2, h3⟩ := h m (by omega)
    rw [qd_rn, qd_rn, qd_rn_c s m (fun j hj => h j (by omega)), h1, h2, h3]
/-! one instruction -/
theorem qd_xP {j : Nat} (hj : j < 300) (hv : vp_in (cf j) 42) {post : SX → Prop} (h : post (fn, co, so, pl, ce, hc, (qd_ex (op j) (cf j) (od j) (ac, C)).1, sc, K, A, S, T, N, F, O, op, od, cf, (qd_ex (op j) (cf j) (od j) (ac, C)).2)) : wpX_perform post (fn, co, so, pl, ce, hc, ac, sc, K, A, S, T, N, F, O, op, od, cf, C) (nI j) := by
  have v1 : vp_in (nI j) 300 := vp_in_nI hj (by omega)
  have k1 : (nI j).toNatClampNeg = j := nI_clamp (by omega)
  simp only [wpX_perform, wpX_performSpecial, wpX_saturated, v1, k1, hv, true_and, forall_eq]
  refine br_c (fun h0 => ?_) (fun h0 => ?_)
  · rw [qd_ex, if_pos h0] at h; exact h
  refine br_c (fun h1 => ?_) (fun h1 => ?_)
  · rw [qd_ex, if_neg h0, if_pos h1] at h; exact h
  refine br_c (fun h2 => ?_) (fun h2 => ?_)
  · rw [qd_ex, if_neg h0, if_neg h1, if_pos h2] at h; exact h
  refine br_c (fun h3 => ?_) (fun h3 => ?_)
  · rw [qd_ex, if_neg h0, if_neg h1, if_neg h2, if_pos h3] at h; exact h
  refine br_c (fun h4 => ?_) (fun h4 => ?_)
  · rw [qd_ex, if_neg h0, if_neg h1, if_neg h2, if_neg h3, if_pos h4] at h; exact h
  refine br_c (fun h10 => ?_) (fun h10 => ?_)
  · rw [qd_ex, if_neg h0, if_neg h1, if_neg h2, if_neg h3, if_neg h4, if_pos h10] at h; exact h
  refine br_c (fun h12 => br_c (fun g1 => br_c (fun g2 => ?_) (fun g2 => ?_)) (fun g1 => ?_)) (fun h12 => ?_)
  · rw [qd_ex, if_neg h0, if_neg h1, if_neg h2, if_neg h3, if_neg h4, if_neg h10, if_pos h12, qd_sl, if_pos g1, if_pos g2] at h; exact h
  · rw [qd_ex, if_neg h0, if_neg h1, if_neg h2, if_neg h3, if_neg h4, if_neg h10, if_pos h12, qd_sl, if_pos g1, if_neg g2] at h; exact h
  · rw [qd_ex, if_neg h0, if_neg h1, if_neg h2, if_neg h3, if_neg h4, if_neg h10, if_pos h12, qd_sl, if_neg g1] at h; exact h
  refine br_c (fun h5 => br_c (fun g1 => ?_) (fun g1 => ?_)) (fun h5 => ?_)
  · rw [qd_ex, if_neg h0, if_neg h1, if_neg h2, if_neg h3, if_neg h4, if_neg h10, if_neg h12, if_pos h5, if_pos g1] at h; exact h
  · rw [qd_ex, if_neg h0, if_neg h1, if_neg h2, if_neg h3, if_neg h4, if_neg h10, if_neg h12, if_pos h5, if_neg g1] at h; exact h
  refine br_c (fun h6 => ?_) (fun h6 => ?_)
  · rw [qd_ex, if_neg h0, if_neg h1, if_neg h2, if_neg h3, if_neg h4, if_neg h10, if_neg h12, if_neg h5, if_pos h6] at h; exact h
  refine br_c (fun h7 => br_c (fun g1 => ?_) (fun g1 => ?_)) (fun h7 => ?_)
  · rw [qd_ex, if_neg h0, if_neg h1, if_neg h2, if_neg h3, if_neg h4, if_neg h10, if_neg h12, if_neg h5, if_neg h6, if_pos h7, if_pos g1] at h; exact h
  · rw [qd_ex, if_neg h0, if_neg h1, if_neg h2, if_neg h3, if_neg h4, if_neg h10, if_neg h12, if_neg h5, if_neg h6, if_pos h7, if_neg g1] at h; exact h
  refine br_c (fun h8 => ?_) (fun h8 => ?_)
  · rw [qd_ex, if_neg h0, if_neg h1, if_neg h2, if_neg h3, if_neg h4, if_neg h10, if_neg h12, if_neg h5, if_neg h6, if_neg h7, if_pos h8] at h; exact h
  refine br_c (fun h9 => ?_) (fun h9 => ?_)
  · rw [qd_ex, if_neg h0, if_neg h1, if_neg h2, if_neg h3, if_neg h4, if_neg h10, if_neg h12, if_neg h5, if_neg h6, if_neg h7, if_neg h8, if_pos h9] at h; exact h
  rw [qd_ex, if_neg h0, if_neg h1, if_neg h2, if_neg h3, if_neg h4, if_neg h10, if_neg h12, if_neg h5, if_neg h6, if_neg h7, if_neg h8, if_neg h9] at h
  exact h
/-! the run -/
theorem qd_x29 {e : Nat} (he : e ≤ 300) (hv : ∀ j, j < e → vp_in (cf j) 42) {a0 : Int64} {c0 : Nat → Int32} {post : Int32 → SX → Prop}
    (h : post 1 (fn, co, so, pl, nI e, hc, (qd_rn op od cf e (a0, c0)).1, sc + 1, K, A, S, T, N, F, O, op, od, cf, (qd_rn op od cf e (a0, c0)).2)) :
    ∀ d j, j + d = e → wX_feed_29 post (d + 1) (nI j) fn co so pl (nI e) hc ((qd_rn op od cf j (a0, c0)).1) sc K A S T N F O op od cf ((qd_rn op od cf j (a0, c0)).2) := by
  intro d
  induction d with
  | zero =>
    intro j hj
    have en : j = e := by omega
    subst en
    have c1 : nI j ≤ nI j := nI_le (Nat.le_refl _) (by omega)
    simp only [wX_feed_29, c1, true_implies, not_true, false_implies, and_true, forall_eq]
    exact h
  | succ d ih =>
    generalize hf : d + 1 = f at ih ⊢
    intro j hj
    have c1 : ¬ nI e ≤ nI j := nI_ge (by omega) (by omega)
    simp only [wX_feed_29, c1, not_false_iff, true_implies, false_implies, true_and]
    refine qd_xP (by omega) (hv j (by omega)) ?_
    intro x ex
    rw [ex, nI_1]
    exact ih (j + 1) (by omega)
theorem qd_x29' {fn : Int32} {e : Nat} (he : e ≤ 300) (hv : ∀ j, j < e → vp_in (cf j) 42) {post : Int32 → SX → Prop}
    (h : post 1 (fn, co, so, pl, nI e, hc, (qd_rn op od cf e (ac, C)).1, sc + 1, K, A, S, T, N, F, O, op, od, cf, (qd_rn op od cf e (ac, C)).2)) :
    wX_feed_29 post (e + 1) 0 fn co so pl (nI e) hc ac sc K A S T N F O op od cf C := qd_x29 he hv h e 0 (by omega)
end
section
variable {n : Nat} {co so pl ce hc sc : Int32} {ac : Int64} {K A S B T N F O op od cf C : Nat → Int32}
/-! what the code does, for every start -/
def qd_I0 (c : Nat → Int32) : Prop := (∀ j, qd_rg (c j)) ∧ c 40 = 0
def qd_G (R : (Nat → Int32) → Int64 → (Nat → Int32) → Prop) (b e : Nat) (op od cf : Nat → Int32) : Prop :=
  e ≤ b ∧ (∀ j, j < e → vp_in (cf j) 42) ∧ ∀ a0 c0, qd_I0 c0 → R c0 (qd_rn op od cf e (a0, c0)).1 (qd_rn op od cf e (a0, c0)).2
theorem qd_G_m {R R' : (Nat → Int32) → Int64 → (Nat → Int32) → Prop} {b b' e : Nat} (g : qd_G R b e op od cf) (hb : b ≤ b') (h : ∀ c0 a cs, qd_I0 c0 → R c0 a cs → R' c0 a cs) : qd_G R' b' e op od cf :=
  ⟨Nat.le_trans g.1 hb, g.2.1, fun a0 c0 hc0 => h _ _ _ hc0 (g.2.2 a0 c0 hc0)⟩
theorem qd_G_s {R R' : (Nat → Int32) → Int64 → (Nat → Int32) → Prop} {b e c : Nat} {o d : Int32} (g : qd_G R b e op od cf) (hcc : c < 42)
    (h : ∀ c0 a cs, qd_I0 c0 → R c0 a cs → R' c0 (qd_ex o (nI c) d (a, cs)).1 (qd_ex o (nI c) d (a, cs)).2) : qd_G R' (b + 1) (e + 1) (upd op e o) (upd od e d) (upd cf e (nI c)) := by
  obtain ⟨g1, g2, g3⟩ := g
  refine ⟨by omega, fun j hj => ?_, fun a0 c0 hc0 => ?_⟩
  · by_cases z : j = e
    · subst z
      rw [pk_us]
      exact vp_in_nI hcc (by omega)
    · rw [pk_un z]
      exact g2 j (by omega)
  · have e1 : qd_rn (upd op e o) (upd od e d) (upd cf e (nI c)) (e + 1) (a0, c0) = qd_ex o (nI c) d (qd_rn op od cf e (a0, c0)) := by
      rw [qd_rn, pk_us, pk_us, pk_us, qd_rn_c (op := op) (od := od) (cf := cf) (a0, c0) e (fun j hj => ⟨pk_un (by omega), pk_un (by omega), pk_un (by omega)⟩)]
    rw [e1]
    exact h c0 _ _ hc0 (g3 a0 c0 hc0)
theorem qd_xw {R : (Nat → Int32) → Int64 → (Nat → Int32) → Prop} (R' : (Nat → Int32) → Int64 → (Nat → Int32) → Prop) {b e : Nat} {d : Int32} {post : SX → Prop} (g : qd_G R b e op od cf) (hb : b < 300) (o c : Nat) (ho : o < 128) (hcc : c < 42)
    (h : ∀ c0 a cs, qd_I0 c0 → R c0 a cs → R' c0 (qd_ex (nI o) (nI c) d (a, cs)).1 (qd_ex (nI o) (nI c) d (a, cs)).2)
    (k : ∀ e' op' od' cf', qd_G R' (b + 1) e' op' od' cf' → post ((nI n), co, so, pl, nI e', -1, ac, sc, K, A, S, T, N, F, O, op', od', cf', C)) : wpX_write post ((nI n), co, so, pl, nI e, hc, ac, sc, K, A, S, T, N, F, O, op, od, cf, C) (nI o) (nI c) d := by
  have he := g.1
  have v1 : vp_in (nI e) 300 := vp_in_nI (by omega) (by omega)
  have k1 : (nI e).toNatClampNeg = e := nI_clamp (by omega)
  simp only [wpX_write, v1, k1, qd_narb ho, qd_narb (show c < 128 by omega), true_and, forall_eq, nI_1]
  exact k _ _ _ _ (qd_G_s g hcc h)
theorem qd_xl {R : (Nat → Int32) → Int64 → (Nat → Int32) → Prop} {b e : Nat} {post : SX → Prop} (g : qd_G R b e op od cf) (hb : b < 300) (c : Nat) (hcc : c < 42)
    (hh : hc = nI c → ∀ c0 a cs, R c0 a cs → a = (cs c).toInt64)
    (k : ∀ e' h' op' od' cf', qd_G (fun c0 a cs => (∃ a1, R c0 a1 cs) ∧ a = (cs c).toInt64) (b + 1) e' op' od' cf' → post ((nI n), co, so, pl, nI e', h', ac, sc, K, A, S, T, N, F, O, op', od', cf', C)) : wpX_load post ((nI n), co, so, pl, nI e, hc, ac, sc, K, A, S, T, N, F, O, op, od, cf, C) (nI c) := by
  unfold wpX_load
  refine br_c (fun h1 => ?_) (fun h1 => ?_)
  · exact k _ _ _ _ _ (qd_G_m g (by omega) (fun c0 a cs _ hr => ⟨⟨a, hr⟩, hh h1 c0 a cs hr⟩))
  · refine qd_xw (fun c0 a cs => (∃ a1, R c0 a1 cs) ∧ a = (cs c).toInt64) g hb 0 c (by omega) hcc (fun c0 a cs _ hr => ?_) (fun e' op' od' cf' g' => k _ _ _ _ _ g')
    have e0 : qd_ex (nI 0) (nI c) 0 (a, cs) = ((cs (nI c).toNatClampNeg).toInt64, cs) := qd_ex_0 _ _ _
    rw [e0, nI_clamp (by omega)]
    exact ⟨⟨a, hr⟩, rfl⟩
theorem qd_xs {R : (Nat → Int32) → Int64 → (Nat → Int32) → Prop} {b e : Nat} {post : SX → Prop} (g : qd_G R b e op od cf) (hb : b < 300) (c : Nat) (hcc : c < 42)
    (k : ∀ e' op' od' cf', qd_G (fun c0 a cs => ∃ cs0, R c0 a cs0 ∧ cs = upd cs0 c a.toInt32) (b + 1) e' op' od' cf' → post ((nI n), co, so, pl, nI e', nI c, ac, sc, K, A, S, T, N, F, O, op', od', cf', C)) : wpX_store post ((nI n), co, so, pl, nI e, hc, ac, sc, K, A, S, T, N, F, O, op, od, cf, C) (nI c) := by
  unfold wpX_store
  refine qd_xw (fun c0 a cs => ∃ cs0, R c0 a cs0 ∧ cs = upd cs0 c a.toInt32) g hb 2 c (by omega) hcc (fun c0 a cs _ hr => ?_) (fun e' op' od' cf' g' => k _ _ _ _ g')
  have e0 : qd_ex (nI 2) (nI c) 0 (a, cs) = (a, upd cs (nI c).toNatClampNeg a.toInt32) := qd_ex_2 _ _ _
  rw [e0, nI_clamp (by omega)]
  exact ⟨cs, hr, rfl⟩
/-- the cell that the accumulator still holds -/
def qd_HL (h : Int32) (a : Int64) (cs : Nat → Int32) : Prop := ∀ m, m < 42 → h = nI m → a = (cs m).toInt64
theorem qd_HL0 (a : Int64) (cs : Nat → Int32) : qd_HL (-1) a cs := by
  intro m hm e
  have h := congrArg Int32.toInt e
  rw [nI_toInt (by omega), show (-1 : Int32).toInt = -1 from by decide] at h
  omega
theorem qd_HLn {c : Nat} (hcc : c < 42) {a : Int64} {cs : Nat → Int32} (h : a = (cs c).toInt64) : qd_HL (nI c) a cs := by
  intro m hm e
  rw [nI_eq (by omega) (by omega)] at e
  subst e
  exact h
theorem qd_xc {P : (Nat → Int32) → (Nat → Int32) → Prop} {b e : Nat} {post : SX → Prop} (g : qd_G (fun c0 a cs => P c0 cs ∧ qd_HL hc a cs) b e op od cf) (hb : b + 1 < 300) (c c' : Nat) (hcc : c < 42) (hcc' : c' < 42)
    (k : ∀ e' h' op' od' cf', qd_G (fun c0 a cs => (∃ cs0, P c0 cs0 ∧ cs = upd cs0 c' (cs0 c)) ∧ qd_HL h' a cs) (b + 2) e' op' od' cf' → post ((nI n), co, so, pl, nI e', h', ac, sc, K, A, S, T, N, F, O, op', od', cf', C)) : wpX_copy post ((nI n), co, so, pl, nI e, hc, ac, sc, K, A, S, T, N, F, O, op, od, cf, C) (nI c) (nI c') := by
  unfold wpX_copy
  refine qd_xl g (by omega) c hcc (fun h1 c0 a cs hr => hr.2 c hcc h1) (fun e1 h1 op1 od1 cf1 g1 => ?_)
  refine qd_xs g1 hb c' hcc' (fun e2 op2 od2 cf2 g2 => ?_)
  refine k _ _ _ _ _ (qd_G_m g2 (Nat.le_refl _) (fun c0 a cs _ hr => ?_))
  obtain ⟨cs0, ⟨⟨a1, h2, -⟩, h3⟩, h4⟩ := hr
  rw [h3, Int32.toInt32_toInt64] at h4
  refine ⟨⟨cs0, h2, h4⟩, qd_HLn hcc' ?_⟩
  rw [h4, pk_us, h3]
/-! cells -/
def qd_cl (n a : Nat) : Nat := if n ≤ a then 40 else a
theorem qd_cl42 {a : Nat} (ha : a < 20) : qd_cl n a < 42 := by
  unfold qd_cl
  split <;> omega
theorem qd_xcl (hn : n ≤ 20) {post : Int32 → Prop} {x : Int32} {a : Nat} (ha : a < 20) (hx : x = nI a) (h : post (nI (qd_cl n a))) : wpX_cellFor post ((nI n), co, so, pl, ce, hc, ac, sc, K, A, S, T, N, F, O, op, od, cf, C) x := by
  subst hx
  unfold wpX_cellFor
  refine pk_le n a (fun z => ?_) (fun z => ?_)
  · rw [qd_cl, if_pos z] at h; exact h
  · rw [qd_cl, if_neg (by omega)] at h; exact h
theorem qd_cl_at (hn : n ≤ 20) {cs : Nat → Int32} (h40 : cs 40 = 0) {x : Int32} {a : Nat} (ha : a < 20) (hx : x = nI a) : cs (qd_cl n a) = qd_at n cs x := by
  subst hx
  unfold qd_cl qd_at
  rw [nI_clamp (by omega)]
  by_cases z : n ≤ a
  · rw [if_pos z, if_pos (nI_le z (by omega)), h40]
  · rw [if_neg z, if_neg (nI_ge (by omega) (by omega))]
/-! a node's value, out of the cells -/
def qd_wx (n : Nat) (K A B T N F : Nat → Int32) (c0 cs : Nat → Int32) (i : Nat) : Int32 := qd_wv n K A B T N F (c0 41) (fun j => c0 (20 + j)) cs i
def qd_Pg (P : (Nat → Int32) → (Nat → Int32) → Prop) : Prop := ∀ c0 cs, P c0 cs → (∀ j, qd_rg (cs j)) ∧ cs 40 = 0 ∧ cs 41 = c0 41
end
section
variable {n : Nat} {co so pl ce hc sc : Int32} {ac : Int64} {K A S B T N F O op od cf C : Nat → Int32} {P : (Nat → Int32) → (Nat → Int32) → Prop}
theorem qd_x73 {b e i : Nat} (hi : i < 20) (g : qd_G (fun c0 a cs => P c0 cs ∧ a = (qd_wx n K A B T N F c0 cs i).toInt64) b e op od cf) (hb : b < 300) {post : SX → Prop}
    (k : ∀ e' h' op' od' cf', qd_G (fun c0 a cs => (∃ cs0, P c0 cs0 ∧ cs = upd cs0 i (qd_wx n K A B T N F c0 cs0 i)) ∧ qd_HL h' a cs) (b + 1) e' op' od' cf' → post ((nI n), co, so, pl, nI e', h', ac, sc, K, A, S, T, N, F, O, op', od', cf', C)) :
    wX_compileNode_73 post (nI i) (nI n) co so pl (nI e) hc ac sc K A S T N F O op od cf C := by
  unfold wX_compileNode_73
  refine qd_xs g hb i (by omega) (fun e' op' od' cf' g' => ?_)
  refine k _ _ _ _ _ (qd_G_m g' (Nat.le_refl _) (fun c0 a cs _ hr => ?_))
  obtain ⟨cs0, ⟨h1, h2⟩, h3⟩ := hr
  rw [h2, Int32.toInt32_toInt64] at h3
  refine ⟨⟨cs0, h1, h3⟩, qd_HLn (by omega) ?_⟩
  rw [h3, pk_us, h2]
/-! saturating -/
theorem qd_xsat {v : (Nat → Int32) → (Nat → Int32) → Int64} {b e : Nat} (g : qd_G (fun c0 a cs => P c0 cs ∧ a = v c0 cs) b e op od cf) (hb : b < 300) {post : SX → Prop}
    (k : ∀ e' op' od' cf', qd_G (fun c0 a cs => P c0 cs ∧ a = (qd_sat (v c0 cs)).toInt64) (b + 1) e' op' od' cf' → post ((nI n), co, so, pl, nI e', -1, ac, sc, K, A, S, T, N, F, O, op', od', cf', C)) : wpX_write post ((nI n), co, so, pl, nI e, hc, ac, sc, K, A, S, T, N, F, O, op, od, cf, C) 12 40 0 := by
  refine qd_xw (fun c0 a cs => P c0 cs ∧ a = (qd_sat (v c0 cs)).toInt64) g hb 12 40 (by omega) (by omega) (fun c0 a cs _ hr => ?_) k
  have e0 : qd_ex (nI 12) (nI 40) 0 (a, cs) = (qd_sl a, cs) := qd_ex_12 _ _ _
  rw [e0]
  refine ⟨hr.1, ?_⟩
  rw [← hr.2, ← qd_sl_s]

/-! two names -/
theorem qd_x2 (wf : qd_WF n K A S B T N) {i b e : Nat} (hi : i < n) (hP : qd_Pg P) (k3 : K i = 3 ∨ K i = 4 ∨ K i = 5) (g : qd_G (fun c0 a cs => P c0 cs ∧ qd_HL hc a cs) b e op od cf) (hb : b + 3 ≤ 300) {post : SX → Prop}
    (k : ∀ e' h' op' od' cf', qd_G (fun c0 a cs => P c0 cs ∧ a = (qd_wx n K A B T N F c0 cs i).toInt64) (b + 3) e' op' od' cf' → post ((nI n), co, so, pl, nI e', h', ac, sc, K, A, S, T, N, F, O, op', od', cf', C)) : wpX_compileTwo post ((nI n), co, so, pl, nI e, hc, ac, sc, K, A, S, T, N, F, O, op, od, cf, C) (nI i) := by
  have hn := wf.1
  obtain ⟨kd, t, hk, hK, ht, hT, -, -, hA, hB, -, -, -⟩ := wf.2 i hi
  have v1 : vp_in (nI i) 20 := vp_in_nI (by omega) (by omega)
  have k1 : (nI i).toNatClampNeg = i := nI_clamp (by omega)
  have r3 : 3 ≤ kd ∧ kd ≤ 5 := by
    rcases k3 with z | z | z
    · have := (nI_eq (b := 3) (by omega) (by omega)).mp (hK.symm.trans z); omega
    · have := (nI_eq (b := 4) (by omega) (by omega)).mp (hK.symm.trans z); omega
    · have := (nI_eq (b := 5) (by omega) (by omega)).mp (hK.symm.trans z); omega
  obtain ⟨x, hx, ex⟩ := hA (by omega) (by omega)
  obtain ⟨y, hy, ey, ey2⟩ := hB r3.1 r3.2
  unfold wpX_compileTwo
  dsimp only
  rw [k1]
  refine ⟨v1, nm_e ⟨v1, qd_xcl hn hx ex ⟨v1, qd_xcl hn hy ey2 ?_⟩⟩⟩
  refine qd_xl g (by omega) (qd_cl n x) (qd_cl42 hx) (fun h1 c0 a cs hr => hr.2 _ (qd_cl42 hx) h1) (fun e1 h1 op1 od1 cf1 g1 => ?_)
  have g2 : qd_G (fun c0 a cs => P c0 cs ∧ a = (qd_at n cs (A i)).toInt64) (b + 1) e1 op1 od1 cf1 := qd_G_m g1 (Nat.le_refl _) (fun c0 a cs _ hr => by
    obtain ⟨⟨a1, h2, -⟩, h3⟩ := hr
    rw [qd_cl_at hn (hP c0 cs h2).2.1 hx ex] at h3
    exact ⟨h2, h3⟩)
  rcases k3 with z | z | z
  · refine br_t z ?_
    unfold wX_compileTwo_55
    refine qd_xw (fun c0 a cs => P c0 cs ∧ a = (qd_at n cs (A i) + qd_at n cs (B i)).toInt64) g2 (by omega) 3 (qd_cl n y) (by omega) (qd_cl42 hy) (fun c0 a cs _ hr => ?_) (fun e3 op3 od3 cf3 g3 => br_f (by rw [z]; decide) ?_)
    · have e0 : qd_ex (nI 3) (nI (qd_cl n y)) 0 (a, cs) = (a + (cs (nI (qd_cl n y)).toNatClampNeg).toInt64, cs) := qd_ex_3 _ _ _
      have hp := hP c0 cs hr.1
      rw [e0, nI_clamp (by have := qd_cl42 (n := n) hy; omega), qd_cl_at hn hp.2.1 hy ey]
      refine ⟨hr.1, ?_⟩
      show a + _ = _
      rw [hr.2, qd_add (qd_at_rg hp.1 _) (qd_at_rg hp.1 _)]
    · refine qd_xsat g3 (by omega) (fun e4 op4 od4 cf4 g4 => k _ _ _ _ _ (qd_G_m g4 (Nat.le_refl _) (fun c0 a cs _ hr => ?_)))
      unfold qd_wx
      rw [qd_wv_3 z]
      exact hr
  · refine br_f (by rw [z]; decide) (br_t z ?_)
    unfold wX_compileTwo_55
    refine qd_xw (fun c0 a cs => P c0 cs ∧ a = (qd_at n cs (A i) - qd_at n cs (B i)).toInt64) g2 (by omega) 4 (qd_cl n y) (by omega) (qd_cl42 hy) (fun c0 a cs _ hr => ?_) (fun e3 op3 od3 cf3 g3 => br_f (by rw [z]; decide) ?_)
    · have e0 : qd_ex (nI 4) (nI (qd_cl n y)) 0 (a, cs) = (a - (cs (nI (qd_cl n y)).toNatClampNeg).toInt64, cs) := qd_ex_4 _ _ _
      have hp := hP c0 cs hr.1
      rw [e0, nI_clamp (by have := qd_cl42 (n := n) hy; omega), qd_cl_at hn hp.2.1 hy ey]
      refine ⟨hr.1, ?_⟩
      show a - _ = _
      rw [hr.2, qd_sb (qd_at_rg hp.1 _) (qd_at_rg hp.1 _)]
    · refine qd_xsat g3 (by omega) (fun e4 op4 od4 cf4 g4 => k _ _ _ _ _ (qd_G_m g4 (Nat.le_refl _) (fun c0 a cs _ hr => ?_)))
      unfold qd_wx
      rw [qd_wv_4 z]
      exact hr
  · refine br_f (by rw [z]; decide) (br_f (by rw [z]; decide) ?_)
    unfold wX_compileTwo_55
    refine qd_xw (fun c0 a cs => P c0 cs ∧ a = (if qd_at n cs (A i) ≤ qd_at n cs (B i) then qd_at n cs (B i) else qd_at n cs (A i)).toInt64) g2 (by omega) 5 (qd_cl n y) (by omega) (qd_cl42 hy) (fun c0 a cs _ hr => ?_) (fun e3 op3 od3 cf3 g3 => br_t z ?_)
    · have e0 : qd_ex (nI 5) (nI (qd_cl n y)) 0 (a, cs) = ((if (cs (nI (qd_cl n y)).toNatClampNeg).toInt64 ≤ a then a else (cs (nI (qd_cl n y)).toNatClampNeg).toInt64), cs) := qd_ex_5 _ _ _
      have hp := hP c0 cs hr.1
      rw [e0, nI_clamp (by have := qd_cl42 (n := n) hy; omega), qd_cl_at hn hp.2.1 hy ey]
      refine ⟨hr.1, ?_⟩
      show (if (qd_at n cs (B i)).toInt64 ≤ a then a else (qd_at n cs (B i)).toInt64) = _
      rw [hr.2]
      by_cases h1 : qd_at n cs (A i) ≤ qd_at n cs (B i)
      · rw [if_pos h1]
        by_cases h2 : qd_at n cs (B i) ≤ qd_at n cs (A i)
        · rw [if_pos ((qd_le64 _ _).mpr h2), Int32.le_antisymm h1 h2]
        · rw [if_neg (fun w => h2 ((qd_le64 _ _).mp w))]
      · rw [if_neg h1, if_pos ((qd_le64 _ _).mpr (Int32.le_of_lt (Int32.not_le.mp h1)))]
    · refine k _ _ _ _ _ (qd_G_m g3 (by omega) (fun c0 a cs _ hr => ?_))
      unfold qd_wx
      rw [qd_wv_5 z]
      exact hr
/-! one name -/
theorem qd_x84 {i b e : Nat} {v : (Nat → Int32) → (Nat → Int32) → Int64} (z : ¬ K i = 9) (g : qd_G (fun c0 a cs => P c0 cs ∧ a = v c0 cs) b e op od cf) (hb : b < 300) {post : SX → Prop}
    (k : ∀ e' h' op' od' cf', qd_G (fun c0 a cs => P c0 cs ∧ a = (qd_sat (v c0 cs)).toInt64) (b + 1) e' op' od' cf' → post ((nI n), co, so, pl, nI e', h', ac, sc, K, A, S, T, N, F, O, op', od', cf', C)) : wX_compileOne_84 post (K i) (nI n) co so pl (nI e) hc ac sc K A S T N F O op od cf C := by
  unfold wX_compileOne_84
  exact br_f z (qd_xsat g hb (fun e4 op4 od4 cf4 g4 => k _ _ _ _ _ g4))
theorem qd_x1 (wf : qd_WF n K A S B T N) {i b e : Nat} (hi : i < n) (hP : qd_Pg P) (k3 : K i = 6 ∨ K i = 7 ∨ K i = 8 ∨ K i = 9) (g : qd_G (fun c0 a cs => P c0 cs ∧ qd_HL hc a cs) b e op od cf) (hb : b + 3 ≤ 300) {post : SX → Prop}
    (k : ∀ e' h' op' od' cf', qd_G (fun c0 a cs => P c0 cs ∧ a = (qd_wx n K A B T N F c0 cs i).toInt64) (b + 3) e' op' od' cf' → post ((nI n), co, so, pl, nI e', h', ac, sc, K, A, S, T, N, F, O, op', od', cf', C)) : wpX_compileOne post ((nI n), co, so, pl, nI e, hc, ac, sc, K, A, S, T, N, F, O, op, od, cf, C) (nI i) := by
  have hn := wf.1
  obtain ⟨kd, t, hk, hK, ht, hT, -, -, hA, -, h8, h9, -⟩ := wf.2 i hi
  have v1 : vp_in (nI i) 20 := vp_in_nI (by omega) (by omega)
  have k1 : (nI i).toNatClampNeg = i := nI_clamp (by omega)
  have r3 : 6 ≤ kd ∧ kd ≤ 9 ∧ (K i = 8 → kd = 8) ∧ (K i = 9 → kd = 9) := by
    refine ⟨?_, ?_, fun z => (nI_eq (b := 8) (by omega) (by omega)).mp (hK.symm.trans z), fun z => (nI_eq (b := 9) (by omega) (by omega)).mp (hK.symm.trans z)⟩
    · rcases k3 with z | z | z | z
      · have := (nI_eq (b := 6) (by omega) (by omega)).mp (hK.symm.trans z); omega
      · have := (nI_eq (b := 7) (by omega) (by omega)).mp (hK.symm.trans z); omega
      · have := (nI_eq (b := 8) (by omega) (by omega)).mp (hK.symm.trans z); omega
      · have := (nI_eq (b := 9) (by omega) (by omega)).mp (hK.symm.trans z); omega
    · rcases k3 with z | z | z | z
      · have := (nI_eq (b := 6) (by omega) (by omega)).mp (hK.symm.trans z); omega
      · have := (nI_eq (b := 7) (by omega) (by omega)).mp (hK.symm.trans z); omega
      · have := (nI_eq (b := 8) (by omega) (by omega)).mp (hK.symm.trans z); omega
      · have := (nI_eq (b := 9) (by omega) (by omega)).mp (hK.symm.trans z); omega
  obtain ⟨x, hx, ex⟩ := hA (by omega) (by omega)
  unfold wpX_compileOne
  dsimp only
  rw [k1]
  refine ⟨v1, nm_e ⟨v1, qd_xcl hn hx ex ?_⟩⟩
  refine qd_xl g (by omega) (qd_cl n x) (qd_cl42 hx) (fun h1 c0 a cs hr => hr.2 _ (qd_cl42 hx) h1) (fun e1 h1 op1 od1 cf1 g1 => ?_)
  have g2 : qd_G (fun c0 a cs => P c0 cs ∧ a = (qd_at n cs (A i)).toInt64) (b + 1) e1 op1 od1 cf1 := qd_G_m g1 (Nat.le_refl _) (fun c0 a cs _ hr => by
    obtain ⟨⟨a1, h2, -⟩, h3⟩ := hr
    rw [qd_cl_at hn (hP c0 cs h2).2.1 hx ex] at h3
    exact ⟨h2, h3⟩)
  rcases k3 with z | z | z | z
  · refine br_t z ?_
    refine qd_xw (fun c0 a cs => P c0 cs ∧ a = (-(qd_at n cs (A i))).toInt64) g2 (by omega) 6 40 (by omega) (by omega) (fun c0 a cs _ hr => ?_) (fun e3 op3 od3 cf3 g3 => ?_)
    · have e0 : qd_ex (nI 6) (nI 40) 0 (a, cs) = (-a, cs) := qd_ex_6 _ _ _
      have hp := hP c0 cs hr.1
      rw [e0]
      refine ⟨hr.1, ?_⟩
      show -a = _
      rw [hr.2, qd_ng (qd_at_rg hp.1 _)]
    · refine qd_x84 (i := i) (by rw [z]; decide) g3 (by omega) (fun e4 h4 op4 od4 cf4 g4 => k _ _ _ _ _ (qd_G_m g4 (Nat.le_refl _) (fun c0 a cs _ hr => ?_)))
      unfold qd_wx
      rw [qd_wv_6 z]
      exact hr
  · refine br_f (by rw [z]; decide) (br_t z ?_)
    refine qd_xw (fun c0 a cs => P c0 cs ∧ a = (if 0 ≤ qd_at n cs (A i) then (qd_at n cs (A i)).toInt64 else (-(qd_at n cs (A i))).toInt64)) g2 (by omega) 7 40 (by omega) (by omega) (fun c0 a cs _ hr => ?_) (fun e3 op3 od3 cf3 g3 => ?_)
    · have e0 : qd_ex (nI 7) (nI 40) 0 (a, cs) = ((if 0 ≤ a then a else -a), cs) := qd_ex_7 _ _ _
      have hp := hP c0 cs hr.1
      rw [e0]
      refine ⟨hr.1, ?_⟩
      show (if 0 ≤ a then a else -a) = _
      rw [hr.2]
      by_cases h2 : 0 ≤ qd_at n cs (A i)
      · rw [if_pos h2, if_pos ((qd_0le _).mpr h2)]
      · rw [if_neg h2, if_neg (fun w => h2 ((qd_0le _).mp w)), qd_ng (qd_at_rg hp.1 _)]
    · refine qd_x84 (i := i) (by rw [z]; decide) g3 (by omega) (fun e4 h4 op4 od4 cf4 g4 => k _ _ _ _ _ (qd_G_m g4 (Nat.le_refl _) (fun c0 a cs _ hr => ?_)))
      unfold qd_wx
      rw [qd_wv_7 z]
      refine ⟨hr.1, hr.2.trans ?_⟩
      by_cases h2 : 0 ≤ qd_at n cs (A i)
      · rw [if_pos h2, if_pos h2]
      · rw [if_neg h2, if_neg h2]
  · refine br_f (by rw [z]; decide) (br_f (by rw [z]; decide) (br_t z ?_))
    obtain ⟨y, hy, ey, ey2⟩ := h8 (r3.2.2.1 z)
    unfold wX_compileOne_73
    rw [k1]
    refine ⟨v1, ?_⟩
    refine qd_xw (fun c0 a cs => P c0 cs ∧ a = (qd_at n cs (A i) <<< (B i &&& 31)).toInt64) g2 (by omega) 8 40 (by omega) (by omega) (fun c0 a cs _ hr => ?_) (fun e3 op3 od3 cf3 g3 => ?_)
    · have e0 : qd_ex (nI 8) (nI 40) (S i) (a, cs) = (a <<< ((S i).toInt64 &&& 63), cs) := qd_ex_8 _ _ _
      have hp := hP c0 cs hr.1
      rw [e0]
      refine ⟨hr.1, ?_⟩
      show a <<< _ = _
      rw [hr.2, ey, ey2, qd_shl (qd_at_rg hp.1 _) hy]
    · refine qd_x84 (i := i) (by rw [z]; decide) g3 (by omega) (fun e4 h4 op4 od4 cf4 g4 => k _ _ _ _ _ (qd_G_m g4 (Nat.le_refl _) (fun c0 a cs _ hr => ?_)))
      unfold qd_wx
      rw [qd_wv_8 z]
      exact hr
  · refine br_f (by rw [z]; decide) (br_f (by rw [z]; decide) (br_f (by rw [z]; decide) ?_))
    obtain ⟨y, hy, ey, ey2⟩ := h9 (r3.2.2.2 z)
    unfold wX_compileOne_73
    rw [k1]
    refine ⟨v1, ?_⟩
    refine qd_xw (fun c0 a cs => P c0 cs ∧ a = (qd_at n cs (A i) >>> (B i &&& 31)).toInt64) g2 (by omega) 9 40 (by omega) (by omega) (fun c0 a cs _ hr => ?_) (fun e3 op3 od3 cf3 g3 => ?_)
    · have e0 : qd_ex (nI 9) (nI 40) (S i) (a, cs) = (a >>> ((S i).toInt64 &&& 63), cs) := qd_ex_9 _ _ _
      rw [e0]
      refine ⟨hr.1, ?_⟩
      show a >>> _ = _
      rw [hr.2, ey, ey2, qd_shr hy]
    · unfold wX_compileOne_84
      refine br_t z (k _ _ _ _ _ (qd_G_m g3 (by omega) (fun c0 a cs _ hr => ?_)))
      unfold qd_wx
      rw [qd_wv_9 z]
      exact hr
/-! a sum -/
theorem qd_x10 (wf : qd_WF n K A S B T N) {i t b : Nat} (hi : i < n) (hT : T i = nI t) (ht : t ≤ 6) (hN : ∀ u, u < t → ∃ m, m < 20 ∧ N (6 * i + u) = nI m) (z : K i = 10) (hP : qd_Pg P) (hb : b + 8 ≤ 300) {post : SX → Prop}
    (k : ∀ e' h' op' od' cf', qd_G (fun c0 a cs => P c0 cs ∧ a = (qd_wx n K A B T N F c0 cs i).toInt64) (b + 8) e' op' od' cf' → post ((nI n), co, so, pl, nI e', h', ac, sc, K, A, S, T, N, F, O, op', od', cf', C)) :
    ∀ d u e hc op od cf, u + d = t → qd_G (fun c0 a cs => P c0 cs ∧ a + 16384 = qd_sm n N F cs i u) (b + u) e op od cf → wX_compileSum_10 post (nI i) (d + 1) (nI u) (nI n) co so pl (nI e) hc ac sc K A S T N F O op od cf C := by
  have hn := wf.1
  have v1 : vp_in (nI i) 20 := vp_in_nI (by omega) (by omega)
  have k1 : (nI i).toNatClampNeg = i := nI_clamp (by omega)
  have kt : (T i).toNatClampNeg = t := by rw [hT]; exact nI_clamp (by omega)
  intro d
  induction d with
  | zero =>
    intro u e hc op od cf hu g
    have eu : u = t := by omega
    subst eu
    have c1 : nI u ≤ nI u := nI_le (Nat.le_refl _) (by omega)
    simp only [wX_compileSum_10, v1, k1, hT, c1, true_implies, not_true, false_implies, and_true, true_and]
    refine qd_xw (fun c0 a cs => P c0 cs ∧ a = qd_sm n N F cs i u >>> ((15 : Int32).toInt64 &&& 63)) g (by omega) 11 40 (by omega) (by omega) (fun c0 a cs _ hr => ?_) (fun e3 op3 od3 cf3 g3 => ?_)
    · have e0 : qd_ex (nI 11) (nI 40) 0 (a, cs) = ((a + 16384) >>> ((15 : Int32).toInt64 &&& 63), cs) := qd_ex_11 _ _ _
      rw [e0]
      refine ⟨hr.1, ?_⟩
      show (a + 16384) >>> _ = _
      rw [hr.2]
    · refine qd_xsat g3 (by omega) (fun e4 op4 od4 cf4 g4 => k _ _ _ _ _ (qd_G_m g4 (by omega) (fun c0 a cs _ hr => ?_)))
      unfold qd_wx
      rw [qd_wv_10 z, kt]
      exact hr
  | succ d ih =>
    generalize hf : d + 1 = f at ih ⊢
    intro u e hc op od cf hu g
    have c1 : ¬ nI t ≤ nI u := nI_ge (by omega) (by omega)
    have v2 : vp_in (nI (6 * i + u)) 120 := vp_in_nI (by omega) (by omega)
    have k2 : (nI (6 * i + u)).toNatClampNeg = 6 * i + u := nI_clamp (by omega)
    obtain ⟨m, hm, em⟩ := hN u (by omega)
    simp only [wX_compileSum_10, v1, k1, hT, c1, qd_6, not_false_iff, true_implies, false_implies, true_and, forall_eq, v2, k2]
    refine qd_xcl hn hm em ?_
    refine qd_xw (fun c0 a cs => P c0 cs ∧ a + 16384 = qd_sm n N F cs i (u + 1)) g (by omega) 10 (qd_cl n m) (by omega) (qd_cl42 hm) (fun c0 a cs _ hr => ?_) (fun e3 op3 od3 cf3 g3 => ?_)
    · have e0 : qd_ex (nI 10) (nI (qd_cl n m)) (F (6 * i + u)) (a, cs) = (a + (F (6 * i + u)).toInt64 * (cs (nI (qd_cl n m)).toNatClampNeg).toInt64, cs) := qd_ex_10 _ _ _
      have hp := hP c0 cs hr.1
      rw [e0, nI_clamp (by have := qd_cl42 (n := n) hm; omega), qd_cl_at hn hp.2.1 hm em]
      refine ⟨hr.1, ?_⟩
      show a + _ + 16384 = _
      rw [qd_sm, ← hr.2, Int64.add_assoc, Int64.add_comm _ 16384, ← Int64.add_assoc]
    · rw [nI_1]
      exact ih (u + 1) e3 _ op3 od3 cf3 (by omega) g3
theorem qd_xsum (wf : qd_WF n K A S B T N) {i b e : Nat} (hi : i < n) (z : K i = 10) (hP : qd_Pg P) (g : qd_G (fun c0 a cs => P c0 cs ∧ qd_HL hc a cs) b e op od cf) (hb : b + 9 ≤ 300) {post : SX → Prop}
    (k : ∀ e' h' op' od' cf', qd_G (fun c0 a cs => P c0 cs ∧ a = (qd_wx n K A B T N F c0 cs i).toInt64) (b + 9) e' op' od' cf' → post ((nI n), co, so, pl, nI e', h', ac, sc, K, A, S, T, N, F, O, op', od', cf', C)) : wpX_compileSum post ((nI n), co, so, pl, nI e, hc, ac, sc, K, A, S, T, N, F, O, op, od, cf, C) (nI i) := by
  have hn := wf.1
  obtain ⟨kd, t, hk, hK, ht, hT, -, -, -, -, -, -, hN⟩ := wf.2 i hi
  unfold wpX_compileSum
  refine qd_xw (fun c0 a cs => P c0 cs ∧ a + 16384 = qd_sm n N F cs i 0) g (by omega) 1 40 (by omega) (by omega) (fun c0 a cs _ hr => ?_) (fun e3 op3 od3 cf3 g3 => ?_)
  · have e0 : qd_ex (nI 1) (nI 40) 0 (a, cs) = ((0 : Int32).toInt64, cs) := qd_ex_1 _ _ _
    rw [e0]
    exact ⟨hr.1, show (0 : Int32).toInt64 + 16384 = 16384 by decide⟩
  · exact ⟨t + 1, qd_x10 wf hi hT ht hN z hP (b := b + 1) (by omega) (fun e' h' op' od' cf' g' => k _ _ _ _ _ g') t 0 e3 _ op3 od3 cf3 (by omega) g3⟩
/-! a node -/
theorem qd_xnode (wf : qd_WF n K A S B T N) {i b e : Nat} (hi : i < n) (z2 : ¬ K i = 2) (hP : qd_Pg P) (g : qd_G (fun c0 a cs => P c0 cs ∧ qd_HL hc a cs) b e op od cf) (hb : b + 10 ≤ 300) {post : SX → Prop}
    (k : ∀ e' h' op' od' cf', qd_G (fun c0 a cs => (∃ cs0, P c0 cs0 ∧ cs = upd cs0 i (qd_wx n K A B T N F c0 cs0 i)) ∧ qd_HL h' a cs) (b + 10) e' op' od' cf' → post ((nI n), co, so, pl, nI e', h', ac, sc, K, A, S, T, N, F, O, op', od', cf', C)) : wpX_compileNode post ((nI n), co, so, pl, nI e, hc, ac, sc, K, A, S, T, N, F, O, op, od, cf, C) (nI i) := by
  have hn := wf.1
  have v1 : vp_in (nI i) 20 := vp_in_nI (by omega) (by omega)
  have k1 : (nI i).toNatClampNeg = i := nI_clamp (by omega)
  have fin : ∀ b' e' h' op' od' cf', b' ≤ b + 9 → qd_G (fun c0 a cs => P c0 cs ∧ a = (qd_wx n K A B T N F c0 cs i).toInt64) b' e' op' od' cf' → wX_compileNode_73 post (nI i) (nI n) co so pl (nI e') h' ac sc K A S T N F O op' od' cf' C := by
    intro b' e' h' op' od' cf' hb' g'
    exact qd_x73 (by omega) g' (by omega) (fun e2 h2 op2 od2 cf2 g2 => k _ _ _ _ _ (qd_G_m g2 (by omega) (fun c0 a cs _ hr => hr)))
  obtain ⟨kd, t, hk, hK, -⟩ := wf.2 i hi
  unfold wpX_compileNode
  dsimp only
  rw [k1]
  refine ⟨v1, nm_e ?_⟩
  by_cases y0 : K i = 0
  · refine br_t y0 (qd_xl g (by omega) 41 (by omega) (fun h1 c0 a cs hr => hr.2 _ (by omega) h1) (fun e1 h1 op1 od1 cf1 g1 => fin (b + 1) _ _ _ _ _ (by omega) (qd_G_m g1 (Nat.le_refl _) (fun c0 a cs _ hr => ?_))))
    obtain ⟨⟨a1, h2, -⟩, h3⟩ := hr
    refine ⟨h2, h3.trans ?_⟩
    unfold qd_wx
    rw [qd_wv_0 y0, (hP c0 cs h2).2.2]
  refine br_f y0 ?_
  by_cases y1 : K i = 1
  · refine br_t y1 ⟨v1, qd_xw (fun c0 a cs => P c0 cs ∧ a = (qd_wx n K A B T N F c0 cs i).toInt64) g (by omega) 1 40 (by omega) (by omega) (fun c0 a cs _ hr => ?_) (fun e1 op1 od1 cf1 g1 => fin (b + 1) _ _ _ _ _ (by omega) g1)⟩
    have e0 : qd_ex (nI 1) (nI 40) (A i) (a, cs) = ((A i).toInt64, cs) := qd_ex_1 _ _ _
    rw [e0]
    refine ⟨hr.1, ?_⟩
    unfold qd_wx
    rw [qd_wv_1 y1]
  refine br_f y1 ?_
  by_cases y10 : K i = 10
  · exact br_t y10 (qd_xsum wf hi y10 hP g (by omega) (fun e1 h1 op1 od1 cf1 g1 => fin (b + 9) _ _ _ _ _ (by omega) g1))
  refine br_f y10 ?_
  have ne : ∀ q, q ≤ 10 → ¬ K i = nI q → kd ≠ q := fun q hq hne e => hne (by rw [hK, e])
  have d0 := ne 0 (by omega) y0
  have d1 := ne 1 (by omega) y1
  have d2 := ne 2 (by omega) z2
  have d10 := ne 10 (by omega) y10
  by_cases y5 : 5 < kd
  · have c5 : 5 < K i := by rw [hK]; exact nI_lt (a := 5) y5 (by omega)
    refine br_t c5 (qd_x1 wf hi hP ?_ g (by omega) (fun e1 h1 op1 od1 cf1 g1 => fin (b + 3) _ _ _ _ _ (by omega) g1))
    rcases (by omega : kd = 6 ∨ kd = 7 ∨ kd = 8 ∨ kd = 9) with rfl | rfl | rfl | rfl
    · exact Or.inl hK
    · exact Or.inr (Or.inl hK)
    · exact Or.inr (Or.inr (Or.inl hK))
    · exact Or.inr (Or.inr (Or.inr hK))
  · have c5 : ¬ 5 < K i := by rw [hK]; exact nI_nlt (a := 5) (by omega) (by omega)
    refine br_f c5 (qd_x2 wf hi hP ?_ g (by omega) (fun e1 h1 op1 od1 cf1 g1 => fin (b + 3) _ _ _ _ _ (by omega) g1))
    rcases (by omega : kd = 3 ∨ kd = 4 ∨ kd = 5) with rfl | rfl | rfl
    · exact Or.inl hK
    · exact Or.inr (Or.inl hK)
    · exact Or.inr (Or.inr hK)
end
section
variable {n : Nat} {co so pl ce hc sc : Int32} {ac : Int64} {K A S B T N F O op od cf C : Nat → Int32}
theorem qd_20 (i : Nat) : (20 : Int32) + nI i = nI (20 + i) := nI_add 20 i
/-! the cells while the code is written: D holds the nodes that are right -/
def qd_Ps (n : Nat) (K A B T N F : Nat → Int32) (D : Nat → Prop) (c0 cs : Nat → Int32) : Prop :=
  (∀ j, qd_rg (cs j)) ∧ cs 40 = 0 ∧ cs 41 = c0 41 ∧ (∀ i, i < n → K i = 2 → cs (20 + i) = c0 (20 + i)) ∧ (∀ i, i < n → D i → cs i = qd_wx n K A B T N F c0 cs i)
theorem qd_Ps_g {D : Nat → Prop} : qd_Pg (qd_Ps n K A B T N F D) := fun _ _ h => ⟨h.1, h.2.1, h.2.2.1⟩
theorem qd_Ps_d (hn : n ≤ 20) {i : Nat} (hi : i < n) (h2 : K i = 2) {c0 cs0 cs : Nat → Int32} (h : qd_Ps n K A B T N F (fun j => K j = 2 ∧ j < i) c0 cs0) (e : cs = upd cs0 i (cs0 (20 + i))) :
    qd_Ps n K A B T N F (fun j => K j = 2 ∧ j < i + 1) c0 cs := by
  obtain ⟨a1, a2, a3, a4, a5⟩ := h
  subst e
  refine ⟨fun j => ?_, by rw [pk_un (by omega)]; exact a2, by rw [pk_un (by omega)]; exact a3, fun j hj hj2 => by rw [pk_un (by omega)]; exact a4 j hj hj2, fun j hj hD => ?_⟩
  · by_cases z : j = i
    · rw [z, pk_us]; exact a1 _
    · rw [pk_un z]; exact a1 _
  · unfold qd_wx
    rw [qd_wv_2 hD.1]
    by_cases z : j = i
    · rw [z, pk_us]
      exact a4 i hi h2
    · rw [pk_un z]
      have h5 := a5 j hj ⟨hD.1, by omega⟩
      unfold qd_wx at h5
      rw [qd_wv_2 hD.1] at h5
      exact h5
theorem qd_Ps_n (wf : qd_WF n K A S B T N) {i : Nat} (hi : i < n) {D D' : Nat → Prop} (hD : ∀ j, j < n → D' j → D j ∨ j = i) (hi2 : ¬ D i) (hdep : ∀ j, D j ∨ j = i → ∀ l, j < n → qd_dep n K A B T N j l → D l)
    {c0 cs0 cs : Nat → Int32} (hc0 : qd_I0 c0) (h : qd_Ps n K A B T N F D c0 cs0) (e : cs = upd cs0 i (qd_wx n K A B T N F c0 cs0 i)) : qd_Ps n K A B T N F D' c0 cs := by
  have hn := wf.1
  obtain ⟨a1, a2, a3, a4, a5⟩ := h
  have same : ∀ j, j < n → (D j ∨ j = i) → qd_wx n K A B T N F c0 cs j = qd_wx n K A B T N F c0 cs0 j := by
    intro j hj hd
    refine qd_wv_c wf hj (fun _ => rfl) (fun l hl => ?_)
    have hl2 := hdep j hd l hj hl
    have ne : l ≠ i := fun z => hi2 (z ▸ hl2)
    rw [e, pk_un ne]
  have r : qd_rg (qd_wx n K A B T N F c0 cs0 i) := qd_wv_rg wf hi (hc0.1 41) (hc0.1 (20 + i)) a1
  refine ⟨fun j => ?_, by rw [e, pk_un (by omega)]; exact a2, by rw [e, pk_un (by omega)]; exact a3, fun j hj hj2 => by rw [e, pk_un (by omega)]; exact a4 j hj hj2, fun j hj hj2 => ?_⟩
  · rw [e]
    by_cases z : j = i
    · rw [z, pk_us]; exact r
    · rw [pk_un z]; exact a1 _
  · rw [same j hj (hD j hj hj2)]
    by_cases z : j = i
    · rw [z, e, pk_us]
    · rw [e, pk_un z]
      exact a5 j hj ((hD j hj hj2).elim id (fun y => absurd y z))
def qd_Pf (n : Nat) (K A B T N F : Nat → Int32) (i : Nat) (c0 cs : Nat → Int32) : Prop :=
  (∀ j, qd_rg (cs j)) ∧ cs 40 = 0 ∧ (∀ j, j < n → cs j = qd_wx n K A B T N F c0 cs j) ∧ (∀ j, j < i → K j = 2 → cs (20 + j) = qd_at n cs (A j))
theorem qd_Pf_s (wf : qd_WF n K A S B T N) {i a : Nat} (hi : i < n) (ha : a < 20) (ea : A i = nI a) {c0 cs0 cs : Nat → Int32} (h : qd_Pf n K A B T N F i c0 cs0) (e : cs = upd cs0 (20 + i) (cs0 (qd_cl n a))) : qd_Pf n K A B T N F (i + 1) c0 cs := by
  have hn := wf.1
  obtain ⟨a1, a2, a3, a4⟩ := h
  have lo : ∀ j, j < n → cs j = cs0 j := fun j hj => by rw [e, pk_un (by omega)]
  have at' : ∀ j, j < n → K j = 2 → qd_at n cs (A j) = qd_at n cs0 (A j) := by
    intro j hj hj2
    obtain ⟨k, t, hk, hK, -, -, -, -, hA, -⟩ := wf.2 j hj
    have k2 : k = 2 := (nI_eq (b := 2) (by omega) (by omega)).mp (hK.symm.trans hj2)
    obtain ⟨x, hx, ex⟩ := hA (by omega) (by omega)
    exact qd_at_c hx ex hn (fun hxn => lo x hxn)
  refine ⟨fun j => ?_, by rw [e, pk_un (by omega)]; exact a2, fun j hj => ?_, fun j hj hj2 => ?_⟩
  · rw [e]
    by_cases z : j = 20 + i
    · rw [z, pk_us]; exact a1 _
    · rw [pk_un z]; exact a1 _
  · rw [lo j hj, a3 j hj]
    exact qd_wv_c wf hj (fun _ => rfl) (fun l hl => (lo l hl.1).symm)
  · rw [at' j (by omega) hj2]
    by_cases z : j = i
    · subst z
      rw [e, pk_us]
      exact qd_cl_at hn a2 ha ea
    · rw [e, pk_un (by omega)]
      exact a4 j (by omega) hj2
/-! the component: compile -/
theorem qd_x102 (wf : qd_WF n K A S B T N) {post : SX → Prop}
    (h : ∀ e hc op od cf, qd_G (fun c0 _ cs => qd_Pf n K A B T N F n c0 cs) 300 e op od cf → post ((nI n), co, so, pl, nI e, hc, ac, sc, K, A, S, T, N, F, O, op, od, cf, C)) :
    ∀ d i e hc op od cf, i + d = n → qd_G (fun c0 a cs => qd_Pf n K A B T N F i c0 cs ∧ qd_HL hc a cs) (240 + 2 * i) e op od cf → wX_compile_102 post (d + 1) (nI i) (nI n) co so pl (nI e) hc ac sc K A S T N F O op od cf C := by
  have hn := wf.1
  intro d
  induction d with
  | zero =>
    intro i e hc op od cf hi g
    have en : i = n := by omega
    subst en
    have c1 : nI i ≤ nI i := nI_le (Nat.le_refl _) (by omega)
    simp only [wX_compile_102, c1, true_implies, not_true, false_implies, and_true]
    exact h e hc op od cf (qd_G_m g (by omega) (fun c0 a cs _ hr => hr.1))
  | succ d ih =>
    generalize hf : d + 1 = f at ih ⊢
    intro i e hc op od cf hi g
    have c1 : ¬ nI n ≤ nI i := nI_ge (by omega) (by omega)
    have v1 : vp_in (nI i) 20 := vp_in_nI (by omega) (by omega)
    have k1 : (nI i).toNatClampNeg = i := nI_clamp (by omega)
    by_cases z2 : K i = 2
    · obtain ⟨k, t, hk, hK, -, -, -, -, hA, -⟩ := wf.2 i (by omega)
      have k2 : k = 2 := (nI_eq (b := 2) (by omega) (by omega)).mp (hK.symm.trans z2)
      obtain ⟨x, hx, ex⟩ := hA (by omega) (by omega)
      have c2 := eq_true z2
      simp only [wX_compile_102, c1, v1, k1, c2, qd_20, not_false_iff, not_true, true_implies, false_implies, true_and, and_true, forall_eq, nI_1]
      refine qd_xcl hn hx ex ?_
      refine qd_xc g (by omega) (qd_cl n x) (20 + i) (qd_cl42 hx) (by omega) (fun e' h' op' od' cf' g' => ?_)
      refine ih (i + 1) e' h' op' od' cf' (by omega) (qd_G_m g' (by omega) (fun c0 a cs _ hr => ⟨?_, hr.2⟩))
      obtain ⟨⟨cs0, h1, h2⟩, -⟩ := hr
      exact qd_Pf_s wf (by omega) hx ex h1 h2
    · simp only [wX_compile_102, c1, v1, k1, z2, qd_20, not_false_iff, not_true, true_implies, false_implies, true_and, and_true, forall_eq, nI_1]
      have go : wX_compile_102 post f (nI (i + 1)) (nI n) co so pl (nI e) hc ac sc K A S T N F O op od cf C := by
        refine ih (i + 1) e hc op od cf (by omega) (qd_G_m g (by omega) (fun c0 a cs _ hr => ⟨⟨hr.1.1, hr.1.2.1, hr.1.2.2.1, fun j hj hj2 => ?_⟩, hr.2⟩))
        by_cases y : j = i
        · subst y
          exact absurd hj2 z2
        · exact hr.1.2.2.2 j (by omega) hj2
      exact br_c (fun _ => go) (fun _ => go)
theorem qd_x76 (wf : qd_WF n K A S B T N) {p : Nat} (od' : qd_Ord n K (qd_dep n K A B T N) p O) {post : SX → Prop}
    (h : ∀ e hc op od cf, qd_G (fun c0 a cs => qd_Pf n K A B T N F 0 c0 cs ∧ qd_HL hc a cs) 240 e op od cf → ∃ n102, wX_compile_102 post n102 0 (nI n) co so (nI p) (nI e) hc ac sc K A S T N F O op od cf C) :
    ∀ d q e hc op od cf, q + d = p → qd_G (fun c0 a cs => qd_Ps n K A B T N F (fun j => K j = 2 ∨ ∃ q', q' < q ∧ O q' = nI j) c0 cs ∧ qd_HL hc a cs) (40 + 10 * q) e op od cf → wX_compile_76 post (d + 1) (nI q) (nI n) co so (nI p) (nI e) hc ac sc K A S T N F O op od cf C := by
  have hn := wf.1
  obtain ⟨hpn, o1, o2, o3, -⟩ := od'
  intro d
  induction d with
  | zero =>
    intro q e hc op od cf hq g
    have en : q = p := by omega
    subst en
    have c1 : nI q ≤ nI q := nI_le (Nat.le_refl _) (by omega)
    simp only [wX_compile_76, c1, true_implies, not_true, false_implies, and_true]
    refine h e hc op od cf (qd_G_m g (by omega) (fun c0 a cs _ hr => ⟨⟨hr.1.1, hr.1.2.1, fun j hj => hr.1.2.2.2.2 j hj ?_, fun j hj => by omega⟩, hr.2⟩))
    by_cases z : K j = 2
    · exact Or.inl z
    · exact Or.inr (o3 j hj z)
  | succ d ih =>
    generalize hf : d + 1 = f at ih ⊢
    intro q e hc op od cf hq g
    have c1 : ¬ nI p ≤ nI q := nI_ge (by omega) (by omega)
    have v1 : vp_in (nI q) 20 := vp_in_nI (by omega) (by omega)
    have k1 : (nI q).toNatClampNeg = q := nI_clamp (by omega)
    obtain ⟨i, hi, ei, hi2, hid⟩ := o1 q (by omega)
    simp only [wX_compile_76, c1, v1, k1, ei, not_false_iff, true_implies, false_implies, true_and]
    refine qd_xnode wf hi hi2 qd_Ps_g g (by omega) (fun e' h' op' od' cf' g' => ?_)
    intro x ex
    rw [ex, nI_1]
    refine ih (q + 1) e' h' op' od' cf' (by omega) (qd_G_m g' (by omega) (fun c0 a cs hc0 hr => ⟨?_, hr.2⟩))
    obtain ⟨⟨cs0, h1, h2⟩, -⟩ := hr
    refine qd_Ps_n wf hi (fun j hjn hj => ?_) (fun hd => ?_) (fun j hj l hjn hl => ?_) hc0 h1 h2
    · rcases hj with z | ⟨q', hq', z⟩
      · exact Or.inl (Or.inl z)
      · rcases Nat.lt_or_ge q' q with y | y
        · exact Or.inl (Or.inr ⟨q', y, z⟩)
        · have eq : q' = q := by omega
          subst eq
          rw [ei, nI_eq (by omega) (by omega)] at z
          exact Or.inr z.symm
    · rcases hd with z | ⟨q', hq', z⟩
      · exact hi2 z
      · exact o2 q' q hq' (by omega) (z.trans ei.symm)
    · rcases hj with z | z
      · rcases z with y | ⟨q', hq', y⟩
        · exact absurd y (qd_dep2 wf j l hjn hl).2
        · obtain ⟨i', hi', ei', -, hd'⟩ := o1 q' (by omega)
          rw [y, nI_eq (by omega) (by omega)] at ei'
          subst ei'
          rcases hd' l hl with w | ⟨q2, hq2, w⟩
          · exact Or.inl w
          · exact Or.inr ⟨q2, by omega, w⟩
      · subst z
        exact hid l hl
theorem qd_x41 (wf : qd_WF n K A S B T N) {post : SX → Prop}
    (h : ∀ e hc op od cf, qd_G (fun c0 a cs => qd_Ps n K A B T N F (fun j => K j = 2) c0 cs ∧ qd_HL hc a cs) 40 e op od cf → ∃ n76, wX_compile_76 post n76 0 (nI n) co so pl (nI e) hc ac sc K A S T N F O op od cf C) :
    ∀ d i e hc op od cf, i + d = n → qd_G (fun c0 a cs => qd_Ps n K A B T N F (fun j => K j = 2 ∧ j < i) c0 cs ∧ qd_HL hc a cs) (2 * i) e op od cf → wX_compile_41 post (d + 1) (nI i) (nI n) co so pl (nI e) hc ac sc K A S T N F O op od cf C := by
  have hn := wf.1
  intro d
  induction d with
  | zero =>
    intro i e hc op od cf hi g
    have en : i = n := by omega
    subst en
    have c1 : nI i ≤ nI i := nI_le (Nat.le_refl _) (by omega)
    simp only [wX_compile_41, c1, true_implies, not_true, false_implies, and_true]
    exact h e hc op od cf (qd_G_m g (by omega) (fun c0 a cs _ hr => ⟨⟨hr.1.1, hr.1.2.1, hr.1.2.2.1, hr.1.2.2.2.1, fun j hj hj2 => hr.1.2.2.2.2 j hj ⟨hj2, hj⟩⟩, hr.2⟩))
  | succ d ih =>
    generalize hf : d + 1 = f at ih ⊢
    intro i e hc op od cf hi g
    have c1 : ¬ nI n ≤ nI i := nI_ge (by omega) (by omega)
    have v1 : vp_in (nI i) 20 := vp_in_nI (by omega) (by omega)
    have k1 : (nI i).toNatClampNeg = i := nI_clamp (by omega)
    by_cases z2 : K i = 2
    · have c2 := eq_true z2
      simp only [wX_compile_41, c1, v1, k1, c2, qd_20, not_false_iff, not_true, true_implies, false_implies, true_and, and_true, forall_eq, nI_1]
      refine qd_xc g (by omega) (20 + i) i (by omega) (by omega) (fun e' h' op' od' cf' g' => ?_)
      refine ih (i + 1) e' h' op' od' cf' (by omega) (qd_G_m g' (by omega) (fun c0 a cs _ hr => ⟨?_, hr.2⟩))
      obtain ⟨⟨cs0, h1, h2⟩, -⟩ := hr
      exact qd_Ps_d hn (by omega) z2 h1 h2
    · simp only [wX_compile_41, c1, v1, k1, z2, qd_20, not_false_iff, not_true, true_implies, false_implies, true_and, and_true, forall_eq, nI_1]
      refine ih (i + 1) e hc op od cf (by omega) (qd_G_m g (by omega) (fun c0 a cs _ hr => ⟨⟨hr.1.1, hr.1.2.1, hr.1.2.2.1, hr.1.2.2.2.1, fun j hj hj2 => hr.1.2.2.2.2 j hj ⟨hj2.1, ?_⟩⟩, hr.2⟩))
      by_cases y : j = i
      · subst y
        exact absurd hj2.1 z2
      · omega
/-- the code stands for the graph -/
def qd_Cd (n : Nat) (K A B T N F : Nat → Int32) (e : Nat) (op od cf : Nat → Int32) : Prop := qd_G (fun c0 _ cs => qd_Pf n K A B T N F n c0 cs) 300 e op od cf
theorem qd_xC (wf : qd_WF n K A S B T N) {post : SX → Prop}
    (h1 : ∀ pl e hc O op od cf, qd_Rk n (qd_dep n K A B T N) → qd_Cd n K A B T N F e op od cf → post ((nI n), 1, 1, pl, nI e, hc, ac, sc, K, A, S, T, N, F, O, op, od, cf, C))
    (h0 : ∀ pl O, qd_Cy n (qd_dep n K A B T N) → post ((nI n), 1, 0, pl, 0, -1, ac, sc, K, A, S, T, N, F, O, op, od, cf, C)) : wpX_compile post ((nI n), 0, so, pl, ce, hc, ac, sc, K, A, S, T, N, F, O, op, od, cf, C) := by
  have hn := wf.1
  unfold wpX_compile
  refine br_t rfl ?_
  refine qd_xO wf (fun p O od' => ?_) (fun p O cy => ?_)
  · refine ⟨by decide, by decide, br_f (by decide) ⟨n + 1, ?_⟩⟩
    refine qd_x41 wf (fun e hc op od cf g => ⟨p + 1, ?_⟩) n 0 0 (-1) op od cf (by omega) ⟨Nat.le_refl _, fun j hj => absurd hj (Nat.not_lt_zero _), fun a0 c0 hc0 => ⟨⟨hc0.1, hc0.2, rfl, fun i _ _ => rfl, fun i _ hd => absurd hd.2 (Nat.not_lt_zero _)⟩, qd_HL0 _ _⟩⟩
    refine qd_x76 wf od' (fun e2 hc2 op2 od2 cf2 g2 => ⟨n + 1, ?_⟩) p 0 e hc op od cf (by omega) (qd_G_m g (by omega) (fun c0 a cs _ hr => ⟨⟨hr.1.1, hr.1.2.1, hr.1.2.2.1, hr.1.2.2.2.1, fun j hj hj2 => hr.1.2.2.2.2 j hj (hj2.elim id (fun y => ?_))⟩, hr.2⟩))
    · exact qd_x102 wf (fun e3 hc3 op3 od3 cf3 g3 => h1 _ _ _ _ _ _ _ od'.2.2.2.2 g3) n 0 e2 hc2 op2 od2 cf2 (by omega) g2
    · obtain ⟨q', hq', -⟩ := y
      omega
  · exact ⟨by decide, by decide, br_t rfl (h0 _ _ cy)⟩
end
section
variable {n s b : Nat} {fn co so pl ce hc sc ss : Int32} {ac : Int64} {K A S B T N F O op od cf C Z Q M : Nat → Int32}
/-! the relation -/
def qd_Cmp (n : Nat) (K A B T N F : Nat → Int32) (so ce : Int32) (op od cf : Nat → Int32) : Prop :=
  (so = 0 ∧ qd_Cy n (qd_dep n K A B T N)) ∨ (so = 1 ∧ qd_Rk n (qd_dep n K A B T N) ∧ ∃ e, ce = nI e ∧ qd_Cd n K A B T N F e op od cf)
def qd_B (b n s : Nat) (K A S B T N C Z : Nat → Int32) : Prop :=
  s ≤ b ∧ qd_WF n K A S B T N ∧ (∀ j, qd_rg (C j)) ∧ C 40 = 0 ∧ (∀ i, i < n → C i = Z i) ∧ (∀ i, i < n → K i = 2 → C (20 + i) = qd_dv n (nI s) A Z i)
def qd_Re (b : Nat) (u : SX) (v : SY) : Prop := ∀ P : SX → SY → Prop, (∀ (n s : Nat) (co so pl ce hc : Int32) (ac : Int64) (K A S B T N F O op od cf C Z Q M : Nat → Int32),
  qd_B b n s K A S B T N C Z → (co = 0 ∨ (co = 1 ∧ qd_Cmp n K A B T N F so ce op od cf)) → P ((nI n), co, so, pl, ce, hc, ac, nI s, K, A, S, T, N, F, O, op, od, cf, C) ((nI n), nI s, K, A, B, T, N, F, Z, Q, M)) → P u v
def qd_Rc (b : Nat) (u : SX) (v : SY) : Prop := ∀ P : SX → SY → Prop, (∀ (n s : Nat) (so pl ce hc : Int32) (ac : Int64) (K A S B T N F O op od cf C Z Q M : Nat → Int32),
  qd_B b n s K A S B T N C Z → qd_Cmp n K A B T N F so ce op od cf → P ((nI n), 1, so, pl, ce, hc, ac, nI s, K, A, S, T, N, F, O, op, od, cf, C) ((nI n), nI s, K, A, B, T, N, F, Z, Q, M)) → P u v
theorem qd_Re_i (hB : qd_B b n s K A S B T N C Z) (h : co = 0 ∨ (co = 1 ∧ qd_Cmp n K A B T N F so ce op od cf)) : qd_Re b ((nI n), co, so, pl, ce, hc, ac, nI s, K, A, S, T, N, F, O, op, od, cf, C) ((nI n), nI s, K, A, B, T, N, F, Z, Q, M) :=
  fun _ hP => hP _ _ _ _ _ _ _ _ _ _ _ _ _ _ _ _ _ _ _ _ _ _ _ hB h
theorem qd_Rc_i (hB : qd_B b n s K A S B T N C Z) (h : qd_Cmp n K A B T N F so ce op od cf) : qd_Rc b ((nI n), 1, so, pl, ce, hc, ac, nI s, K, A, S, T, N, F, O, op, od, cf, C) ((nI n), nI s, K, A, B, T, N, F, Z, Q, M) :=
  fun _ hP => hP _ _ _ _ _ _ _ _ _ _ _ _ _ _ _ _ _ _ _ _ _ _ hB h
theorem qd_B_up {b' : Nat} (h : b ≤ b') (hB : qd_B b n s K A S B T N C Z) : qd_B b' n s K A S B T N C Z := ⟨Nat.le_trans hB.1 h, hB.2⟩
theorem qd_Re_up {b' : Nat} (h : b ≤ b') {u : SX} {v : SY} (I : qd_Re b u v) : qd_Re b' u v :=
  fun _ hP => I _ (fun _ _ _ _ _ _ _ _ _ _ _ _ _ _ _ _ _ _ _ _ _ _ _ hB hC => hP _ _ _ _ _ _ _ _ _ _ _ _ _ _ _ _ _ _ _ _ _ _ _ (qd_B_up h hB) hC)
theorem qd_Rc_Re {u : SX} {v : SY} (I : qd_Rc b u v) : qd_Re b u v :=
  fun _ hP => I _ (fun _ _ _ _ _ _ _ _ _ _ _ _ _ _ _ _ _ _ _ _ _ _ hB hC => hP _ _ _ _ _ _ _ _ _ _ _ _ _ _ _ _ _ _ _ _ _ _ _ hB (Or.inr ⟨rfl, hC⟩))
/-! restart -/
theorem qd_xr2 {post : SX → Prop} (h : ∀ C', (∀ j, j < 42 → C' j = 0) → (∀ j, 42 ≤ j → C' j = C j) → post (fn, co, so, pl, ce, hc, ac, 0, K, A, S, T, N, F, O, op, od, cf, C')) :
    ∀ d i C', i + d = 42 → (∀ j, j < i → C' j = 0) → (∀ j, 42 ≤ j → C' j = C j) → wX_restart_2 post fn co so pl ce hc ac sc (d + 1) (nI i) K A S T N F O op od cf C' := by
  intro d
  induction d with
  | zero =>
    intro i C' hi e1 e2
    have en : i = 42 := by omega
    subst en
    have c1 : (42 : Int32) ≤ nI 42 := by decide
    simp only [wX_restart_2, c1, true_implies, not_true, false_implies, and_true]
    exact h C' e1 e2
  | succ d ih =>
    generalize hf : d + 1 = f at ih ⊢
    intro i C' hi e1 e2
    have c1 : ¬ (42 : Int32) ≤ nI i := nI_ge (b := 42) (by omega) (by omega)
    have v1 : vp_in (nI i) 42 := vp_in_nI (by omega) (by omega)
    have k1 : (nI i).toNatClampNeg = i := nI_clamp (by omega)
    simp only [wX_restart_2, c1, v1, k1, not_false_iff, true_implies, false_implies, true_and, forall_eq, nI_1]
    refine ih (i + 1) _ (by omega) (fun j hj => ?_) (fun j hj => ?_)
    · by_cases z : j = i
      · rw [z, pk_us]
      · rw [pk_un z]; exact e1 j (by omega)
    · rw [pk_un (by omega)]; exact e2 j hj
theorem qd_xr {post : SX → Prop} (h : ∀ C', (∀ j, j < 42 → C' j = 0) → (∀ j, 42 ≤ j → C' j = C j) → post (fn, co, so, pl, ce, hc, ac, 0, K, A, S, T, N, F, O, op, od, cf, C')) : wpX_restart post (fn, co, so, pl, ce, hc, ac, sc, K, A, S, T, N, F, O, op, od, cf, C) :=
  ⟨42 + 1, qd_xr2 h 42 0 C (by omega) (fun j hj => absurd hj (Nat.not_lt_zero _)) (fun j _ => rfl)⟩
theorem qd_yr7 {post : SY → Prop} (h : ∀ Z', (∀ j, j < 20 → Z' j = 0) → post (fn, ss, K, A, B, T, N, F, Z', Q, M)) :
    ∀ d i Z', i + d = 20 → (∀ j, j < i → Z' j = 0) → wY_restart_7 post fn ss (d + 1) (nI i) K A B T N F Z' Q M := by
  intro d
  induction d with
  | zero =>
    intro i Z' hi e1
    have en : i = 20 := by omega
    subst en
    have c1 : (20 : Int32) ≤ nI 20 := by decide
    simp only [wY_restart_7, c1, true_implies, not_true, false_implies, and_true]
    exact h Z' e1
  | succ d ih =>
    generalize hf : d + 1 = f at ih ⊢
    intro i Z' hi e1
    have c1 : ¬ (20 : Int32) ≤ nI i := nI_ge (b := 20) (by omega) (by omega)
    have v1 : vp_in (nI i) 20 := vp_in_nI (by omega) (by omega)
    have k1 : (nI i).toNatClampNeg = i := nI_clamp (by omega)
    simp only [wY_restart_7, c1, v1, k1, not_false_iff, true_implies, false_implies, true_and, forall_eq, nI_1]
    refine ih (i + 1) _ (by omega) (fun j hj => ?_)
    by_cases z : j = i
    · rw [z, pk_us]
    · rw [pk_un z]; exact e1 j (by omega)
theorem qd_yr {post : SY → Prop} (h : ∀ Z', (∀ j, j < 20 → Z' j = 0) → post (fn, 0, K, A, B, T, N, F, Z', Q, M)) : wpY_restart post (fn, ss, K, A, B, T, N, F, Z, Q, M) :=
  ⟨20 + 1, qd_yr7 h 20 0 Z (by omega) (fun j hj => absurd hj (Nat.not_lt_zero _))⟩
theorem qd_B0 {C' Z' : Nat → Int32} (wf : qd_WF n K A S B T N) (hC : ∀ j, qd_rg (C j)) (c1 : ∀ j, j < 42 → C' j = 0) (c2 : ∀ j, 42 ≤ j → C' j = C j) (z1 : ∀ j, j < 20 → Z' j = 0) : qd_B b n 0 K A S B T N C' Z' := by
  have hn := wf.1
  refine ⟨Nat.zero_le _, wf, fun j => ?_, c1 40 (by omega), fun i hi => by rw [c1 i (by omega), z1 i (by omega)], fun i hi _ => ?_⟩
  · rcases Nat.lt_or_ge j 42 with z | z
    · rw [c1 j z]; exact qd_rg0
    · rw [c2 j z]; exact hC j
  · rw [c1 _ (by omega)]
    unfold qd_dv
    rw [if_pos nI_0]
/-! compile, feed -/
theorem qd_pre {u : SX} {v : SY} (I : qd_Re b u v) {post : SX → Prop} (h : ∀ u1, qd_Rc b u1 v → post u1) : wpX_compile post u := by
  revert h
  refine I (fun u v => (∀ u1, qd_Rc b u1 v → post u1) → wpX_compile post u) ?_
  intro n s co so pl ce hc ac K A S B T N F O op od cf C Z Q M hB hC h
  rcases hC with e | ⟨e, hC⟩
  · subst e
    refine qd_xC hB.2.1 (fun pl' e' hc' O' op' od' cf' r cd => h _ (qd_Rc_i hB (Or.inr ⟨rfl, r, e', rfl, cd⟩))) (fun pl' O' cy => h _ (qd_Rc_i hB (Or.inl ⟨rfl, cy⟩)))
  · subst e
    unfold wpX_compile
    exact br_f (by decide) (h _ (qd_Rc_i hB hC))
def qd_r (u : SX) : Int32 := match u with
  | (_, _, so, _, _, _, _, _, _, _, _, _, _, _, _, _, _, _, _) => so
def qd_f (x : Int32) (u : SX) : SX := match u with
  | (fn, co, so, pl, ce, hc, ac, sc, K, A, S, T, N, F, O, op, od, cf, C) => if so = 0 then (fn, co, so, pl, ce, hc, ac, sc, K, A, S, T, N, F, O, op, od, cf, C) else (fn, co, so, pl, ce, hc, (qd_rn op od cf ce.toNatClampNeg (ac, upd C 41 (qd_sat x.toInt64))).1, sc + 1, K, A, S, T, N, F, O, op, od, cf, (qd_rn op od cf ce.toNatClampNeg (ac, upd C 41 (qd_sat x.toInt64))).2)
def qd_Xc (u : SX) : Prop := match u with
  | (_, co, so, _, ce, _, _, _, _, _, _, _, _, _, _, _, _, cf, _) => co = 1 ∧ (so = 0 ∨ (so = 1 ∧ ∃ e, ce = nI e ∧ e ≤ 300 ∧ ∀ j, j < e → vp_in (cf j) 42))
theorem qd_Rc_x {u : SX} {v : SY} (I : qd_Rc b u v) : qd_Xc u := by
  refine I (fun u v => qd_Xc u) ?_
  intro n s so pl ce hc ac K A S B T N F O op od cf C Z Q M hB hC
  refine ⟨rfl, ?_⟩
  rcases hC with ⟨e, -⟩ | ⟨e, -, e', h1, h2⟩
  · exact Or.inl e
  · exact Or.inr ⟨e, e', h1, h2.1, h2.2.1⟩
theorem qd_Xc_f (x : Int32) {u : SX} (h : qd_Xc u) : qd_Xc (qd_f x u) := by
  obtain ⟨fn, co, so, pl, ce, hc, ac, sc, K, A, S, T, N, F, O, op, od, cf, C⟩ := u
  unfold qd_f
  dsimp only
  split
  · exact h
  · exact h
theorem qd_r_f (x : Int32) (u : SX) : qd_r (qd_f x u) = qd_r u := by
  obtain ⟨fn, co, so, pl, ce, hc, ac, sc, K, A, S, T, N, F, O, op, od, cf, C⟩ := u
  unfold qd_f
  dsimp only
  split
  · rfl
  · rfl
theorem qd_Xc_r {u : SX} (h : qd_Xc u) : qd_r u = 0 ∨ qd_r u = 1 := by
  obtain ⟨fn, co, so, pl, ce, hc, ac, sc, K, A, S, T, N, F, O, op, od, cf, C⟩ := u
  rcases h.2 with z | z
  · exact Or.inl z
  · exact Or.inr z.1
/-- the component's feed, once the code stands -/
theorem qd_xF {u : SX} (hu : qd_Xc u) {x : Int32} {post : Int32 → SX → Prop} (h : post (qd_r u) (qd_f x u)) : wpX_feed post u x := by
  obtain ⟨fn, co, so, pl, ce, hc, ac, sc, K, A, S, T, N, F, O, op, od, cf, C⟩ := u
  obtain ⟨e1, e2⟩ := hu
  subst e1
  unfold wpX_feed
  unfold wpX_compile
  refine br_f (by decide) ?_
  unfold qd_f qd_r at h
  dsimp only at h
  rcases e2 with e | ⟨e, e', h1, h2, h3⟩
  · subst e
    rw [if_pos rfl] at h
    exact br_t rfl h
  · subst e
    subst h1
    rw [if_neg (by decide), nI_clamp (by omega)] at h
    refine br_f (by decide) ?_
    have go : ∀ y : Int64, y.toInt32 = qd_sat x.toInt64 → ∀ a : Nat → Int32, a = upd C 41 y.toInt32 → ∃ n29, wX_feed_29 post n29 0 fn 1 1 pl (nI e') hc ac sc K A S T N F O op od cf a := by
      intro y ey a ea
      subst ea
      rw [ey]
      exact ⟨e' + 1, qd_x29' h2 h3 h⟩
    have hs : qd_sl x.toInt64 = if x.toInt64 ≤ 32767 then (if -32768 ≤ x.toInt64 then x.toInt64 else -32768) else 32767 := rfl
    have hi := qd_sl_i x.toInt64
    refine br_c (fun g1 => br_c (fun g2 => ?_) (fun g2 => ?_)) (fun g1 => ?_)
    · rw [hs, if_pos g1, if_pos g2] at hi
      exact go _ hi
    · rw [hs, if_pos g1, if_neg g2] at hi
      exact go _ hi
    · rw [hs, if_neg g1] at hi
      exact go _ hi
end
section
variable {n s b : Nat} {fn co so pl ce hc sc ss : Int32} {ac : Int64} {K A S B T N F O op od cf C Z Q M : Nat → Int32}
theorem qd_pF {u : SX} {v : SY} (I : qd_Re b u v) {x : Int32} {post : Int32 → SX → Prop} (h : ∀ u1, qd_Rc b u1 v → wpX_feed post u1 x) : wpX_feed post u x := by
  obtain ⟨fn, co, so, pl, ce, hc, ac, sc, K, A, S, T, N, F, O, op, od, cf, C⟩ := u
  unfold wpX_feed
  refine qd_pre I (fun u1 I1 => ?_)
  have H := h u1 I1
  have hx := qd_Rc_x I1
  obtain ⟨fn, co, so, pl, ce, hc, ac, sc, K, A, S, T, N, F, O, op, od, cf, C⟩ := u1
  unfold wpX_feed wpX_compile at H
  have hc0 : ¬ co = 0 := by
    rw [hx.1]
    decide
  exact H.2 hc0
theorem qd_dv_at (wf : qd_WF n K A S B T N) {i : Nat} (hi : i < n) (h2 : K i = 2) {s : Nat} (hs : s + 1 < 2 ^ 31) {V : Nat → Int32} (hV : ∀ j, j < n → Z j = V j) : qd_at n V (A i) = qd_dv n (nI (s + 1)) A Z i := by
  have hn := wf.1
  obtain ⟨k, t, hk, hK, -, -, -, -, hA, -⟩ := wf.2 i hi
  have k2 : k = 2 := (nI_eq (b := 2) (by omega) (by omega)).mp (hK.symm.trans h2)
  obtain ⟨a, ha, ea⟩ := hA (by omega) (by omega)
  unfold qd_at qd_dv
  rw [ea, nI_clamp (by omega), if_neg (nI_ne0 (by omega) hs)]
  rcases Nat.lt_or_ge a n with z | z
  · rw [if_neg (nI_ge z (by omega)), if_pos (nI_lt z (by omega)), hV a z]
  · rw [if_pos (nI_le z (by omega)), if_neg (nI_nlt z (by omega))]
theorem qd_yF {u : SX} {v : SY} (I : qd_Rc b u v) (hb : b + 1 < 2 ^ 31) {x : Int32} {post : Int32 → SY → Prop} (h : ∀ v', qd_Rc (b + 1) (qd_f x u) v' → post (qd_r u) v') : wpY_feed post v x := by
  revert h
  refine I (fun u v => (∀ v', qd_Rc (b + 1) (qd_f x u) v' → post (qd_r u) v') → wpY_feed post v x) ?_
  intro n s so pl ce hc ac K A S B T N F O op od cf C Z Q M hB hC h
  have wf := hB.2.1
  have hn := wf.1
  unfold qd_f qd_r at h
  dsimp only at h
  rcases hC with ⟨e, cy⟩ | ⟨e, r, e', h1, h2⟩
  · subst e
    rw [if_pos rfl] at h
    exact qd_yF0 wf cy (fun M' => h _ (qd_Rc_i (qd_B_up (by omega) hB) (Or.inl ⟨rfl, cy⟩)))
  · subst e
    subst h1
    have he := h2.1
    rw [if_neg (by decide), nI_clamp (by omega), nI_1] at h
    have i0 : qd_I0 (upd C 41 (qd_sat x.toInt64)) := by
      refine ⟨fun j => ?_, by rw [pk_un (by omega)]; exact hB.2.2.2.1⟩
      by_cases z : j = 41
      · rw [z, pk_us]; exact qd_sat_rg _
      · rw [pk_un z]; exact hB.2.2.1 j
    have pf := h2.2.2 ac _ i0
    dsimp only at pf
    generalize (qd_rn op od cf e' (ac, upd C 41 (qd_sat x.toInt64))).2 = V at pf h
    generalize (qd_rn op od cf e' (ac, upd C 41 (qd_sat x.toInt64))).1 = a' at h
    obtain ⟨p1, p2, p3, p4⟩ := pf
    have hV : ∀ i, i < n → V i = qd_wv n K A B T N F (qd_sat x.toInt64) (qd_dv n (nI s) A Z) V i := by
      intro i hi
      have e3 := p3 i hi
      unfold qd_wx at e3
      rw [pk_us] at e3
      refine e3.trans (qd_wv_c wf hi (fun hk => ?_) (fun j _ => rfl))
      show upd C 41 (qd_sat x.toInt64) (20 + i) = _
      rw [pk_un (by omega)]
      exact hB.2.2.2.2.2 i hi hk
    refine qd_yF1 wf hV r (fun Z' Q' M' eZ => ?_)
    rw [nI_1]
    have hs := hB.1
    refine h _ (qd_Rc_i ⟨by omega, wf, p1, p2, fun i hi => (eZ i hi).symm, fun i hi hk => ?_⟩ (Or.inr ⟨rfl, r, e', rfl, h2⟩))
    rw [p4 i hi hk]
    exact qd_dv_at wf hi hk (by omega) eZ
/-! repeat -/
def qd_it (x : Int32) : Nat → SX → SX
  | 0, u => u
  | d + 1, u => qd_it x d (qd_f x u)
def qd_ct (x : Int32) : Nat → Nat → SX → Nat
  | 0, c, _ => c
  | d + 1, c, u => qd_ct x d (if qd_r u = 0 then c else c + 1) (qd_f x u)
def qd_xrep (post : Int32 → SX → Prop) (x w : Int32) (f : Nat) (x4 x5 : Int32) (u : SX) : Prop := match u with
  | (fn, co, so, pl, ce, hc, ac, sc, K, A, S, T, N, F, O, op, od, cf, C) => wX_repeat_27 post x w f x4 x5 fn co so pl ce hc ac sc K A S T N F O op od cf C
def qd_yrep (post : Int32 → SY → Prop) (x w : Int32) (f : Nat) (x4 x5 : Int32) (v : SY) : Prop := match v with
  | (fn, ss, K, A, B, T, N, F, Z, Q, M) => wY_repeat_27 post x w f x4 x5 fn ss K A B T N F Z Q M
theorem qd_xR {x : Int32} {w : Nat} (hw : w ≤ 40) {post : Int32 → SX → Prop} :
    ∀ d j c u, j + d = w → qd_Xc u → post (nI (qd_ct x d c u)) (qd_it x d u) → qd_xrep post x (nI w) (d + 1) (nI c) (nI j) u := by
  intro d
  induction d with
  | zero =>
    intro j c u hj hu h
    obtain ⟨fn, co, so, pl, ce, hc, ac, sc, K, A, S, T, N, F, O, op, od, cf, C⟩ := u
    have en : j = w := by omega
    subst en
    have c1 : nI j ≤ nI j := nI_le (Nat.le_refl _) (by omega)
    simp only [qd_xrep, wX_repeat_27, c1, true_implies, not_true, false_implies, and_true]
    exact h
  | succ d ih =>
    intro j c u hj hu h
    have h' : post (nI (qd_ct x d (if qd_r u = 0 then c else c + 1) (qd_f x u))) (qd_it x d (qd_f x u)) := h
    have ihu := ih (j + 1) _ _ (by omega) (qd_Xc_f x hu) h'
    generalize hf : d + 1 = f at ihu ⊢
    have c1 : ¬ nI w ≤ nI j := nI_ge (by omega) (by omega)
    obtain ⟨fn, co, so, pl, ce, hc, ac, sc, K, A, S, T, N, F, O, op, od, cf, C⟩ := u
    simp only [qd_xrep, wX_repeat_27, c1, not_false_iff, true_implies, false_implies, true_and]
    refine qd_xF hu ?_
    generalize qd_f x (fn, co, so, pl, ce, hc, ac, sc, K, A, S, T, N, F, O, op, od, cf, C) = u' at ihu ⊢
    generalize qd_r (fn, co, so, pl, ce, hc, ac, sc, K, A, S, T, N, F, O, op, od, cf, C) = r at ihu ⊢
    obtain ⟨fn', co', so', pl', ce', hc', ac', sc', K', A', S', T', N', F', O', op', od', cf', C'⟩ := u'
    refine br_c (fun h0 => ?_) (fun h0 => ?_)
    · rw [if_pos h0] at ihu
      intro y ey
      rw [ey, nI_1]
      exact ihu
    · rw [if_neg h0] at ihu
      intro y ey y2 ey2
      rw [ey, ey2, nI_1, nI_1]
      exact ihu
theorem qd_yR {x : Int32} {w : Nat} (hw : w ≤ 40) {post : Int32 → SY → Prop} :
    ∀ d j c b u v, j + d = w → b + d < 2 ^ 31 → qd_Rc b u v → (∀ v', qd_Rc (b + d) (qd_it x d u) v' → post (nI (qd_ct x d c u)) v') → qd_yrep post x (nI w) (d + 1) (nI c) (nI j) v := by
  intro d
  induction d with
  | zero =>
    intro j c b u v hj hb I h
    have h' := h v I
    obtain ⟨fn, ss, K, A, B, T, N, F, Z, Q, M⟩ := v
    have en : j = w := by omega
    subst en
    have c1 : nI j ≤ nI j := nI_le (Nat.le_refl _) (by omega)
    simp only [qd_yrep, wY_repeat_27, c1, true_implies, not_true, false_implies, and_true]
    exact h'
  | succ d ih =>
    intro j c b u v hj hb I h
    have ihu : ∀ v', qd_Rc (b + 1) (qd_f x u) v' → qd_yrep post x (nI w) (d + 1) (nI (if qd_r u = 0 then c else c + 1)) (nI (j + 1)) v' := by
      intro v' I'
      refine ih (j + 1) _ (b + 1) (qd_f x u) v' (by omega) (by omega) I' (fun v2 I2 => h v2 ?_)
      have e : b + (d + 1) = b + 1 + d := by omega
      rw [e]
      exact I2
    generalize hf : d + 1 = f at ihu ⊢
    have c1 : ¬ nI w ≤ nI j := nI_ge (by omega) (by omega)
    obtain ⟨fn, ss, K, A, B, T, N, F, Z, Q, M⟩ := v
    simp only [qd_yrep, wY_repeat_27, c1, not_false_iff, true_implies, false_implies, true_and]
    refine qd_yF I (by omega) (fun v' I' => ?_)
    have ihv := ihu v' I'
    obtain ⟨fn', ss', K', A', B', T', N', F', Z', Q', M'⟩ := v'
    refine br_c (fun h0 => ?_) (fun h0 => ?_)
    · rw [if_pos h0] at ihv
      intro y ey
      rw [ey, nI_1]
      exact ihv
    · rw [if_neg h0] at ihv
      intro y ey y2 ey2
      rw [ey, ey2, nI_1, nI_1]
      exact ihv
theorem qd_rep {u : SX} {v : SY} (I : qd_Re b u v) {x : Int32} {w : Nat} (hw : w ≤ 40) (hb : b + 40 < 2 ^ 31) {post : Int32 → SX → Int32 → SY → Prop} (h : ∀ r u' v', qd_Re (b + w) u' v' → post r u' r v') :
    ∃ f, qd_xrep (fun r u' => ∃ f', qd_yrep (fun r' v' => post r u' r' v') x (nI w) f' 0 0 v) x (nI w) f 0 0 u := by
  refine ⟨w + 1, ?_⟩
  rcases Nat.eq_zero_or_pos w with z | z
  · subst z
    have h' := h 0 u v I
    have c1 : (nI 0 ≤ (0 : Int32)) = True := eq_true (by decide)
    obtain ⟨fn, co, so, pl, ce, hc, ac, sc, K, A, S, T, N, F, O, op, od, cf, C⟩ := u
    obtain ⟨fn', ss', K', A', B', T', N', F', Z', Q', M'⟩ := v
    simp only [qd_xrep, wX_repeat_27, c1, true_implies, not_true, false_implies, and_true]
    refine ⟨0 + 1, ?_⟩
    simp only [qd_yrep, wY_repeat_27, c1, true_implies, not_true, false_implies, and_true]
    exact h'
  · have go : ∀ u1, qd_Rc b u1 v → qd_xrep (fun r u' => ∃ f', qd_yrep (fun r' v' => post r u' r' v') x (nI w) f' 0 0 v) x (nI w) (w + 1) 0 0 u1 := by
      intro u1 I1
      refine qd_xR hw w 0 0 u1 (by omega) (qd_Rc_x I1) ⟨w + 1, ?_⟩
      exact qd_yR hw w 0 0 b u1 v (by omega) (by omega) I1 (fun v' I' => h _ _ _ (qd_Rc_Re I'))
    have c1 : ¬ nI w ≤ 0 := nI_nle z (by omega)
    obtain ⟨fn, co, so, pl, ce, hc, ac, sc, K, A, S, T, N, F, O, op, od, cf, C⟩ := u
    simp only [qd_xrep, wX_repeat_27, c1, not_false_iff, true_implies, false_implies, true_and]
    refine qd_pF I (fun u1 I1 => ?_)
    have H := go u1 I1
    obtain ⟨fn1, co1, so1, pl1, ce1, hc1, ac1, sc1, K1, A1, S1, T1, N1, F1, O1, op1, od1, cf1, C1⟩ := u1
    simp only [qd_xrep, wX_repeat_27, c1, not_false_iff, true_implies, false_implies, true_and] at H
    exact H
end
section
variable {n s b : Nat} {fn co so pl ce hc sc ss : Int32} {ac : Int64} {K A S B T N F O op od cf C Z Q M : Nat → Int32}
/-! comparisons as ints -/
theorem qd_tE {x c : Int32} (h : x = c) : x.toInt = c.toInt := congrArg _ h
theorem qd_tN {x c : Int32} (h : ¬ x = c) : ¬ x.toInt = c.toInt := fun z => h (Int32.toInt_inj.mp z)
theorem qd_tL {x c : Int32} (h : x < c) : x.toInt < c.toInt := Int32.lt_iff_toInt_lt.mp h
theorem qd_tM {x c : Int32} (h : ¬ x < c) : ¬ x.toInt < c.toInt := fun z => h (Int32.lt_iff_toInt_lt.mpr z)
theorem qd_tG {x c : Int32} (h : x ≤ c) : x.toInt ≤ c.toInt := Int32.le_iff_toInt_le.mp h
theorem qd_tH {x c : Int32} (h : ¬ x ≤ c) : ¬ x.toInt ≤ c.toInt := fun z => h (Int32.le_iff_toInt_le.mpr z)
theorem qd_q0 : (0 : Int32).toInt = 0 := by decide
theorem qd_q1 : (1 : Int32).toInt = 1 := by decide
theorem qd_q2 : (2 : Int32).toInt = 2 := by decide
theorem qd_q3 : (3 : Int32).toInt = 3 := by decide
theorem qd_q5 : (5 : Int32).toInt = 5 := by decide
theorem qd_q7 : (7 : Int32).toInt = 7 := by decide
theorem qd_q8 : (8 : Int32).toInt = 8 := by decide
theorem qd_q9 : (9 : Int32).toInt = 9 := by decide
theorem qd_q10 : (10 : Int32).toInt = 10 := by decide
theorem qd_q15 : (15 : Int32).toInt = 15 := by decide
theorem qd_q19 : (19 : Int32).toInt = 19 := by decide
theorem qd_of {x : Int32} {m : Nat} (h0 : 0 ≤ x.toInt) (h1 : x.toInt < m) (hm : m < 2 ^ 31) : ∃ a, a < m ∧ x = nI a := by
  refine ⟨x.toInt.toNat, by omega, Int32.toInt_inj.mp ?_⟩
  rw [nI_toInt (by omega)]
  omega
/-! what may be a node -/
def qd_c1 (x1 x2 : Int32) : Prop := x1.toInt = 1 → -32768 ≤ x2.toInt ∧ x2.toInt ≤ 32767
def qd_c2 (x1 x2 : Int32) : Prop := 2 ≤ x1.toInt → x1.toInt ≤ 9 → 0 ≤ x2.toInt ∧ x2.toInt ≤ 19
def qd_c3 (x1 x3 : Int32) : Prop := 3 ≤ x1.toInt → x1.toInt ≤ 5 → 0 ≤ x3.toInt ∧ x3.toInt ≤ 19
def qd_c8 (x1 x3 : Int32) : Prop := x1.toInt = 8 → 0 ≤ x3.toInt ∧ x3.toInt ≤ 7
def qd_c9 (x1 x3 : Int32) : Prop := x1.toInt = 9 → 0 ≤ x3.toInt ∧ x3.toInt ≤ 15
def qd_fit (x1 x2 x3 : Int32) : Prop := (0 ≤ x1.toInt ∧ x1.toInt ≤ 10) ∧ qd_c1 x1 x2 ∧ qd_c2 x1 x2 ∧ qd_c3 x1 x3 ∧ qd_c8 x1 x3 ∧ qd_c9 x1 x3
theorem qd_xnum {x : Int32} {post : Int32 → Prop} (h1 : 0 ≤ x.toInt ∧ x.toInt ≤ 19 → post 1) (h0 : ¬ (0 ≤ x.toInt ∧ x.toInt ≤ 19) → post 0) : wpX_isNumber post (fn, co, so, pl, ce, hc, ac, sc, K, A, S, T, N, F, O, op, od, cf, C) x := by
  have q0 := qd_q0
  have q19 := qd_q19
  refine br_c (fun a => h0 ?_) (fun a => br_c (fun b => h0 ?_) (fun b => h1 ?_))
  · have := qd_tL a; omega
  · have := qd_tL b; omega
  · have := qd_tM a; have := qd_tM b; omega
theorem qd_ynum {x : Int32} {post : Int32 → Prop} (h1 : 0 ≤ x.toInt ∧ x.toInt ≤ 19 → post 1) (h0 : ¬ (0 ≤ x.toInt ∧ x.toInt ≤ 19) → post 0) : wpY_isName post (fn, ss, K, A, B, T, N, F, Z, Q, M) x := by
  have q0 := qd_q0
  have q19 := qd_q19
  refine br_c (fun a => h0 ?_) (fun a => br_c (fun b => h0 ?_) (fun b => h1 ?_))
  · have := qd_tL a; omega
  · have := qd_tL b; omega
  · have := qd_tM a; have := qd_tM b; omega
theorem qd_yval {x : Int32} {post : Int32 → Prop} (h1 : -32768 ≤ x.toInt ∧ x.toInt ≤ 32767 → post 1) (h0 : ¬ (-32768 ≤ x.toInt ∧ x.toInt ≤ 32767) → post 0) : wpY_isValue post (fn, ss, K, A, B, T, N, F, Z, Q, M) x := by
  have q0 := qd_i2
  have q19 := qd_i1
  refine br_c (fun a => h0 ?_) (fun a => br_c (fun b => h0 ?_) (fun b => h1 ?_))
  · have := qd_tL a; omega
  · have := qd_tL b; omega
  · have := qd_tM a; have := qd_tM b; omega
/-! the component's checks -/
theorem qd_xn104 {x1 x2 x3 : Int32} {post : Int32 → SX → Prop} (hb : ¬ qd_c9 x1 x3 → post (-1) (fn, co, so, pl, ce, hc, ac, sc, K, A, S, T, N, F, O, op, od, cf, C)) (hg : qd_c9 x1 x3 → wX_node_122 post x1 x2 x3 fn co so pl ce hc ac sc K A S T N F O op od cf C) : wX_node_104 post x1 x2 x3 fn co so pl ce hc ac sc K A S T N F O op od cf C := by
  have q0 := qd_q0
  have q9 := qd_q9
  have q15 := qd_q15
  unfold qd_c9 at hb hg
  refine br_c (fun a => br_c (fun b => hb ?_) (fun b => br_c (fun c => hg ?_) (fun c => hb ?_))) (fun a => hg ?_)
  · have := qd_tE a; have := qd_tL b; clear hb hg; omega
  · have := qd_tE a; have := qd_tM b; have := qd_tG c; clear hb hg; omega
  · have := qd_tE a; have := qd_tM b; have := qd_tH c; clear hb hg; omega
  · have := qd_tN a; clear hb hg; omega
theorem qd_xn86 {x1 x2 x3 : Int32} {post : Int32 → SX → Prop} (hb : ¬ (qd_c8 x1 x3 ∧ qd_c9 x1 x3) → post (-1) (fn, co, so, pl, ce, hc, ac, sc, K, A, S, T, N, F, O, op, od, cf, C)) (hg : qd_c8 x1 x3 ∧ qd_c9 x1 x3 → wX_node_122 post x1 x2 x3 fn co so pl ce hc ac sc K A S T N F O op od cf C) : wX_node_86 post x1 x2 x3 fn co so pl ce hc ac sc K A S T N F O op od cf C := by
  have q0 := qd_q0
  have q8 := qd_q8
  have q7 := qd_q7
  have go : qd_c8 x1 x3 → wX_node_104 post x1 x2 x3 fn co so pl ce hc ac sc K A S T N F O op od cf C := fun h8 => qd_xn104 (fun z => hb (fun y => z y.2)) (fun z => hg ⟨h8, z⟩)
  have no : ¬ qd_c8 x1 x3 → post (-1) (fn, co, so, pl, ce, hc, ac, sc, K, A, S, T, N, F, O, op, od, cf, C) := fun h8 => hb (fun y => h8 y.1)
  clear hb hg
  unfold qd_c8 at go no
  refine br_c (fun a => br_c (fun b => no ?_) (fun b => br_c (fun c => go ?_) (fun c => no ?_))) (fun a => go ?_)
  · have := qd_tE a; have := qd_tL b; clear go no; omega
  · have := qd_tE a; have := qd_tM b; have := qd_tG c; clear go no; omega
  · have := qd_tE a; have := qd_tM b; have := qd_tH c; clear go no; omega
  · have := qd_tN a; clear go no; omega
theorem qd_xn66 {x1 x2 x3 : Int32} {post : Int32 → SX → Prop} (hb : ¬ (qd_c3 x1 x3 ∧ qd_c8 x1 x3 ∧ qd_c9 x1 x3) → post (-1) (fn, co, so, pl, ce, hc, ac, sc, K, A, S, T, N, F, O, op, od, cf, C)) (hg : qd_c3 x1 x3 ∧ qd_c8 x1 x3 ∧ qd_c9 x1 x3 → wX_node_122 post x1 x2 x3 fn co so pl ce hc ac sc K A S T N F O op od cf C) : wX_node_66 post x1 x2 x3 fn co so pl ce hc ac sc K A S T N F O op od cf C := by
  have q3 := qd_q3
  have q5 := qd_q5
  have go : qd_c3 x1 x3 → wX_node_86 post x1 x2 x3 fn co so pl ce hc ac sc K A S T N F O op od cf C := fun h8 => qd_xn86 (fun z => hb (fun y => z y.2)) (fun z => hg ⟨h8, z⟩)
  have no : ¬ qd_c3 x1 x3 → post (-1) (fn, co, so, pl, ce, hc, ac, sc, K, A, S, T, N, F, O, op, od, cf, C) := fun h8 => hb (fun y => h8 y.1)
  clear hb hg
  unfold qd_c3 at go no
  refine br_c (fun a => go ?_) (fun a => br_c (fun b => go ?_) (fun b => qd_xnum (fun c => br_f (by decide) (go (fun _ _ => c))) (fun c => br_t rfl (no ?_))))
  · have := qd_tL a; clear go no; omega
  · have := qd_tL b; clear go no; omega
  · have := qd_tM a; have := qd_tM b; clear go no; omega
theorem qd_xn45 {x1 x2 x3 : Int32} {post : Int32 → SX → Prop} (hb : ¬ (qd_c2 x1 x2 ∧ qd_c3 x1 x3 ∧ qd_c8 x1 x3 ∧ qd_c9 x1 x3) → post (-1) (fn, co, so, pl, ce, hc, ac, sc, K, A, S, T, N, F, O, op, od, cf, C)) (hg : qd_c2 x1 x2 ∧ qd_c3 x1 x3 ∧ qd_c8 x1 x3 ∧ qd_c9 x1 x3 → wX_node_122 post x1 x2 x3 fn co so pl ce hc ac sc K A S T N F O op od cf C) : wX_node_45 post x1 x2 x3 fn co so pl ce hc ac sc K A S T N F O op od cf C := by
  have q2 := qd_q2
  have q9 := qd_q9
  have go : qd_c2 x1 x2 → wX_node_66 post x1 x2 x3 fn co so pl ce hc ac sc K A S T N F O op od cf C := fun h8 => qd_xn66 (fun z => hb (fun y => z y.2)) (fun z => hg ⟨h8, z⟩)
  have no : ¬ qd_c2 x1 x2 → post (-1) (fn, co, so, pl, ce, hc, ac, sc, K, A, S, T, N, F, O, op, od, cf, C) := fun h8 => hb (fun y => h8 y.1)
  clear hb hg
  unfold qd_c2 at go no
  refine br_c (fun a => go ?_) (fun a => br_c (fun b => go ?_) (fun b => qd_xnum (fun c => br_f (by decide) (go (fun _ _ => c))) (fun c => br_t rfl (no ?_))))
  · have := qd_tL a; clear go no; omega
  · have := qd_tL b; clear go no; omega
  · have := qd_tM a; have := qd_tM b; clear go no; omega
theorem qd_xnd {x1 x2 x3 : Int32} {post : Int32 → SX → Prop} (hn : n < 20) (hb : ¬ qd_fit x1 x2 x3 → post (-1) ((nI n), co, so, pl, ce, hc, ac, sc, K, A, S, T, N, F, O, op, od, cf, C)) (hg : qd_fit x1 x2 x3 → wX_node_122 post x1 x2 x3 (nI n) co so pl ce hc ac sc K A S T N F O op od cf C) : wpX_node post ((nI n), co, so, pl, ce, hc, ac, sc, K, A, S, T, N, F, O, op, od, cf, C) x1 x2 x3 := by
  have q0 := qd_q0
  have q10 := qd_q10
  have q1 := qd_q1
  have l1 := qd_i1
  have l2 := qd_i2
  have go : (0 ≤ x1.toInt ∧ x1.toInt ≤ 10) → qd_c1 x1 x2 → wX_node_45 post x1 x2 x3 (nI n) co so pl ce hc ac sc K A S T N F O op od cf C := fun h8 h9 => qd_xn45 (fun z => hb (fun y => z y.2.2)) (fun z => hg ⟨h8, h9, z⟩)
  have no1 : ¬ (0 ≤ x1.toInt ∧ x1.toInt ≤ 10) → post (-1) ((nI n), co, so, pl, ce, hc, ac, sc, K, A, S, T, N, F, O, op, od, cf, C) := fun h8 => hb (fun y => h8 y.1)
  have no : ¬ qd_c1 x1 x2 → post (-1) ((nI n), co, so, pl, ce, hc, ac, sc, K, A, S, T, N, F, O, op, od, cf, C) := fun h8 => hb (fun y => h8 y.2.1)
  clear hb hg
  unfold qd_c1 at go no
  refine br_t (nI_lt (b := 20) hn (by omega)) (br_c (fun a => no1 ?_) (fun a => br_c (fun b => br_c (fun c => br_c (fun d => no ?_) (fun d => br_c (fun e => go ?_ ?_) (fun e => no ?_))) (fun c => go ?_ ?_)) (fun b => no1 ?_)))
  · have := qd_tL a; clear go no no1; omega
  · have := qd_tE c; have := qd_tL d; clear go no no1; omega
  · have := qd_tM a; have := qd_tG b; clear go no no1; omega
  · have := qd_tE c; have := qd_tM d; have := qd_tG e; clear go no no1; omega
  · have := qd_tE c; have := qd_tM d; have := qd_tH e; clear go no no1; omega
  · have := qd_tM a; have := qd_tG b; clear go no no1; omega
  · have := qd_tN c; clear go no no1; omega
  · have := qd_tM a; have := qd_tH b; clear go no no1; omega
/-! the reference's checks -/
theorem qd_yf60 {x1 x3 : Int32} {post : Int32 → Prop} (hb : ¬ (qd_c8 x1 x3 ∧ qd_c9 x1 x3) → post 0) (hg : qd_c8 x1 x3 ∧ qd_c9 x1 x3 → post 1) : wY_fits_60 post x1 x3 fn ss K A B T N F Z Q M := by
  have q0 := qd_q0
  have q8 := qd_q8
  have q7 := qd_q7
  have q9 := qd_q9
  have q15 := qd_q15
  unfold qd_c8 qd_c9 at hb hg
  refine br_c (fun a => br_c (fun b => hb ?_) (fun b => br_c (fun c => hb ?_) (fun c => hg ?_))) (fun a => br_c (fun d => br_c (fun b => hb ?_) (fun b => br_c (fun c => hb ?_) (fun c => hg ?_))) (fun d => hg ?_))
  · have := qd_tE a; have := qd_tL b; clear hb hg; omega
  · have := qd_tE a; have := qd_tM b; have := qd_tL c; clear hb hg; omega
  · have := qd_tE a; have := qd_tM b; have := qd_tM c; clear hb hg; omega
  · have := qd_tN a; have := qd_tE d; have := qd_tL b; clear hb hg; omega
  · have := qd_tN a; have := qd_tE d; have := qd_tM b; have := qd_tL c; clear hb hg; omega
  · have := qd_tN a; have := qd_tE d; have := qd_tM b; have := qd_tM c; clear hb hg; omega
  · have := qd_tN a; have := qd_tN d; clear hb hg; omega
theorem qd_yf44 {x1 x3 : Int32} {post : Int32 → Prop} (hb : ¬ (qd_c3 x1 x3 ∧ qd_c8 x1 x3 ∧ qd_c9 x1 x3) → post 0) (hg : qd_c3 x1 x3 ∧ qd_c8 x1 x3 ∧ qd_c9 x1 x3 → post 1) : wY_fits_44 post x1 x3 fn ss K A B T N F Z Q M := by
  have q3 := qd_q3
  have q5 := qd_q5
  have go : qd_c3 x1 x3 → wY_fits_60 post x1 x3 fn ss K A B T N F Z Q M := fun h8 => qd_yf60 (fun z => hb (fun y => z y.2)) (fun z => hg ⟨h8, z⟩)
  refine br_c (fun a => go ?_) (fun a => br_c (fun b => go ?_) (fun b => qd_ynum (fun c => ⟨narrow_b1, hg ?_⟩) (fun c => ⟨narrow_b0, hb ?_⟩)))
  · have := qd_tL a; clear go hb hg; unfold qd_c3; omega
  · have := qd_tL b; clear go hb hg; unfold qd_c3; omega
  · have := qd_tM a; have := qd_tM b; clear go hb hg; unfold qd_c3 qd_c8 qd_c9; omega
  · have := qd_tM a; have := qd_tM b; clear go hb hg; unfold qd_c3 qd_c8 qd_c9; omega
theorem qd_yfit {x1 x2 x3 : Int32} {post : Int32 → Prop} (hb : ¬ qd_fit x1 x2 x3 → post 0) (hg : qd_fit x1 x2 x3 → post 1) : wpY_fits post (fn, ss, K, A, B, T, N, F, Z, Q, M) x1 x2 x3 := by
  have q0 := qd_q0
  have q10 := qd_q10
  have q1 := qd_q1
  have q2 := qd_q2
  have q9 := qd_q9
  have l1 := qd_i1
  have l2 := qd_i2
  have go : (0 ≤ x1.toInt ∧ x1.toInt ≤ 10) → qd_c1 x1 x2 → qd_c2 x1 x2 → wY_fits_44 post x1 x3 fn ss K A B T N F Z Q M := fun h8 h9 h7 => qd_yf44 (fun z => hb (fun y => z y.2.2.2)) (fun z => hg ⟨h8, h9, h7, z⟩)
  have no2 : ¬ qd_c2 x1 x2 → post 0 := fun h8 => hb (fun y => h8 y.2.2.1)
  unfold qd_fit at hb hg
  unfold qd_c2 at go no2
  refine br_c (fun a => hb ?_) (fun a => br_c (fun b => br_c (fun c => qd_yval (fun d => ⟨narrow_b1, hg ?_⟩) (fun d => ⟨narrow_b0, hb ?_⟩)) (fun c => br_c (fun d => go ?_ ?_ ?_) (fun d => br_c (fun e => go ?_ ?_ ?_) (fun e => qd_ynum (fun f => br_f (by decide) (go ?_ ?_ (fun _ _ => f))) (fun f => br_t rfl (no2 ?_)))))) (fun b => hb ?_))
  · have := qd_tL a; clear go no2 hb hg; omega
  · have := qd_tE c; clear go no2 hb hg; unfold qd_c1 qd_c2 qd_c3 qd_c8 qd_c9; omega
  · have := qd_tE c; clear go no2 hb hg; unfold qd_c1 qd_c2 qd_c3 qd_c8 qd_c9; omega
  · have := qd_tM a; have := qd_tG b; clear go no2 hb hg; omega
  · have := qd_tN c; clear go no2 hb hg; unfold qd_c1; omega
  · have := qd_tL d; clear go no2 hb hg; omega
  · have := qd_tM a; have := qd_tG b; clear go no2 hb hg; omega
  · have := qd_tN c; clear go no2 hb hg; unfold qd_c1; omega
  · have := qd_tL e; clear go no2 hb hg; omega
  · have := qd_tM a; have := qd_tG b; clear go no2 hb hg; omega
  · have := qd_tN c; clear go no2 hb hg; unfold qd_c1; omega
  · have := qd_tM d; have := qd_tM e; clear go no2 hb hg; omega
  · have := qd_tM a; have := qd_tH b; clear go no2 hb hg; omega
/-! a new node -/
theorem qd_x122 {x1 x2 x3 : Int32} {k : Nat} (hn : n < 20) (hx : x1 = nI k) (hk : k ≤ 10) {post : Int32 → SX → Prop}
    (h : ∀ C', (∀ j, j < 42 → C' j = 0) → (∀ j, 42 ≤ j → C' j = C j) → post (nI n) (nI (n + 1), 0, so, pl, ce, hc, ac, 0, upd K n x1, upd A n x2, upd S n x3.toInt8.toInt32, upd T n 0, N, F, O, op, od, cf, C')) : wX_node_122 post x1 x2 x3 (nI n) co so pl ce hc ac sc K A S T N F O op od cf C := by
  have v1 : vp_in (nI n) 20 := vp_in_nI hn (by omega)
  have k1 : (nI n).toNatClampNeg = n := nI_clamp (by omega)
  have k2 : vp_nar .byte x1.toInt8.toInt32 = x1 := by rw [hx]; exact qd_narb (by omega)
  have k3 : vp_nar .byte 0 = 0 := qd_narb (i := 0) (by omega)
  simp only [wX_node_122, v1, k1, k2, k3, pk_vb, true_and, forall_eq, nI_1]
  exact qd_xr h
theorem qd_ok_c {K' A' S' B' T' : Nat → Int32} {i : Nat} (h1 : K' i = K i) (h2 : A' i = A i) (h3 : S' i = S i) (h4 : B' i = B i) (h5 : T' i = T i) (h : qd_ok K A S B T N i) : qd_ok K' A' S' B' T' N i := by
  unfold qd_ok at *
  rw [h1, h2, h3, h4, h5]
  exact h
theorem qd_b8 {x : Int32} {c : Nat} (hc : c < 128) (h : x = nI c) : x.toInt8.toInt32 = nI c := by rw [h, qd_nar c hc]
theorem qd_fit_ok {x1 x2 x3 : Int32} (h : qd_fit x1 x2 x3) : ∃ k, k ≤ 10 ∧ x1 = nI k ∧ qd_ok (upd K n x1) (upd A n x2) (upd S n x3.toInt8.toInt32) (upd B n x3) (upd T n 0) N n := by
  obtain ⟨⟨a1, a2⟩, a3, a4, a5, a6, a7⟩ := h
  obtain ⟨k, hk, ek⟩ := qd_of (m := 11) a1 (by omega) (by omega)
  have ki : x1.toInt = (k : Int) := by rw [ek]; exact nI_toInt (by omega)
  refine ⟨k, by omega, ek, k, 0, by omega, ?_⟩
  rw [pk_us, pk_us, pk_us, pk_us, pk_us]
  refine ⟨ek, by omega, rfl, fun _ => rfl, fun z => a3 (by omega), fun y1 y2 => ?_, fun y1 y2 => ?_, fun z => ?_, fun z => ?_, fun u hu => absurd hu (Nat.not_lt_zero _)⟩
  · obtain ⟨z1, z2⟩ := a4 (by omega) (by omega)
    exact qd_of (m := 20) z1 (by omega) (by omega)
  · obtain ⟨z1, z2⟩ := a5 (by omega) (by omega)
    obtain ⟨c, hc, ec⟩ := qd_of (m := 20) z1 (by omega) (by omega)
    exact ⟨c, hc, ec, qd_b8 (by omega) ec⟩
  · obtain ⟨z1, z2⟩ := a6 (by omega)
    obtain ⟨c, hc, ec⟩ := qd_of (m := 8) z1 (by omega) (by omega)
    exact ⟨c, hc, ec, qd_b8 (by omega) ec⟩
  · obtain ⟨z1, z2⟩ := a7 (by omega)
    obtain ⟨c, hc, ec⟩ := qd_of (m := 16) z1 (by omega) (by omega)
    exact ⟨c, hc, ec, qd_b8 (by omega) ec⟩
theorem qd_WF_n {x1 x2 x3 : Int32} (hn : n < 20) (wf : qd_WF n K A S B T N) (h : qd_ok (upd K n x1) (upd A n x2) (upd S n x3.toInt8.toInt32) (upd B n x3) (upd T n 0) N n) : qd_WF (n + 1) (upd K n x1) (upd A n x2) (upd S n x3.toInt8.toInt32) (upd B n x3) (upd T n 0) N := by
  refine ⟨by omega, fun i hi => ?_⟩
  by_cases z : i = n
  · rw [z]; exact h
  · exact qd_ok_c (pk_un z) (pk_un z) (pk_un z) (pk_un z) (pk_un z) (wf.2 i (by omega))
/-! a new tap -/
theorem qd_WF_t {j t a : Nat} (hj : j < n) (ha : a < 20) (hT : T j = nI t) (ht : t < 6) (hK : K j = 10) (wf : qd_WF n K A S B T N) : qd_WF n K A S B (upd T j (nI (t + 1))) (upd N (6 * j + t) (nI a)) := by
  have hn := wf.1
  refine ⟨hn, fun i hi => ?_⟩
  obtain ⟨k, t', hk, eK, ht', eT, h10, b1, b2, b3, b4, b5, b6⟩ := wf.2 i hi
  by_cases z : i = j
  · subst z
    have et : t' = t := (nI_eq (by omega) (by omega)).mp (eT.symm.trans hT)
    subst et
    refine ⟨k, t' + 1, hk, eK, by omega, pk_us, fun w => ?_, b1, b2, b3, b4, b5, fun u hu => ?_⟩
    · exact absurd ((nI_eq (b := 10) (by omega) (by omega)).mp (eK.symm.trans hK)) w
    · by_cases y : u = t'
      · subst y
        exact ⟨a, ha, pk_us⟩
      · rw [pk_un (by omega)]
        exact b6 u (by omega)
  · refine ⟨k, t', hk, eK, ht', by rw [pk_un z]; exact eT, h10, b1, b2, b3, b4, b5, fun u hu => ?_⟩
    rw [pk_un (by omega)]
    exact b6 u hu
theorem qd_xtp {j t a : Nat} {x3 : Int32} (hn : n ≤ 20) (hj : j < n) (ha : a < 20) (hT : T j = nI t) (ht : t < 6) (hK : K j = 10) (r1 : ¬ x3 < -32768) (r2 : x3 ≤ 32767) {post : Int32 → SX → Prop}
    (h : ∀ C', (∀ j, j < 42 → C' j = 0) → (∀ j, 42 ≤ j → C' j = C j) → post (nI (t + 1)) ((nI n), 0, so, pl, ce, hc, ac, 0, K, A, S, upd T j (nI (t + 1)), upd N (6 * j + t) (nI a), upd F (6 * j + t) x3, O, op, od, cf, C')) : wpX_tap post ((nI n), co, so, pl, ce, hc, ac, sc, K, A, S, T, N, F, O, op, od, cf, C) (nI j) (nI a) x3 := by
  have c1 : ¬ nI j < 0 := nI_pos (by omega)
  have c2 : ¬ nI n ≤ nI j := nI_ge hj (by omega)
  have v1 : vp_in (nI j) 20 := vp_in_nI (by omega) (by omega)
  have k1 : (nI j).toNatClampNeg = j := nI_clamp (by omega)
  have v2 : vp_in (nI (6 * j + t)) 120 := vp_in_nI (by omega) (by omega)
  have k2 : (nI (6 * j + t)).toNatClampNeg = 6 * j + t := nI_clamp (by omega)
  have c3 : nI t < 6 := nI_lt (b := 6) ht (by omega)
  have c4 := eq_true hK
  have aI : (nI a).toInt = (a : Int) := nI_toInt (by omega)
  have k3 : vp_nar .byte (nI a).toInt8.toInt32 = nI a := qd_narb (by omega)
  have k4 : vp_nar .byte (nI (t + 1)).toInt8.toInt32 = nI (t + 1) := qd_narb (by omega)
  simp only [wpX_tap, c1, c2, v1, k1, c4, hT, c3, r1, r2, qd_6, v2, k2, k3, k4, nI_1, not_false_iff, not_true, true_implies, false_implies, true_and, and_true, forall_eq]
  refine qd_xnum (fun _ => br_f (by decide) ?_) (fun w => by omega)
  refine qd_xr (fun C' e1 e2 => ?_)
  have h' := h C' e1 e2
  show post (upd T j (nI (t + 1)) j) _
  rw [pk_us]
  exact h'
theorem qd_ytp {j t a : Nat} {x3 : Int32} (hn : n ≤ 20) (hj : j < n) (ha : a < 20) (hT : T j = nI t) (ht : t < 6) (hK : K j = 10) (r1 : ¬ x3 < -32768) (r2 : x3 ≤ 32767) {post : Int32 → SY → Prop}
    (h : ∀ Z', (∀ j, j < 20 → Z' j = 0) → post (nI (t + 1)) ((nI n), 0, K, A, B, upd T j (nI (t + 1)), upd N (6 * j + t) (nI a), upd F (6 * j + t) x3, Z', Q, M)) : wpY_tap post ((nI n), ss, K, A, B, T, N, F, Z, Q, M) (nI j) (nI a) x3 := by
  have c1 : ¬ nI j < 0 := nI_pos (by omega)
  have c2 : ¬ nI n ≤ nI j := nI_ge hj (by omega)
  have v1 : vp_in (nI j) 20 := vp_in_nI (by omega) (by omega)
  have k1 : (nI j).toNatClampNeg = j := nI_clamp (by omega)
  have v2 : vp_in (nI (6 * j + t)) 120 := vp_in_nI (by omega) (by omega)
  have k2 : (nI (6 * j + t)).toNatClampNeg = 6 * j + t := nI_clamp (by omega)
  have c3 : ¬ nI t = 6 := fun w => by have := (nI_eq (b := 6) (by omega) (by omega)).mp w; omega
  have c4 := eq_true hK
  have aI : (nI a).toInt = (a : Int) := nI_toInt (by omega)
  have l1 := qd_i1
  have l2 := qd_i2
  simp only [wpY_tap, c1, c2, v1, k1, c4, hT, c3, qd_6, v2, k2, nI_1, not_false_iff, not_true, true_implies, false_implies, true_and, and_true, forall_eq]
  refine qd_ynum (fun _ => br_f (by decide) ?_) (fun w => by omega)
  refine qd_yval (fun _ => br_f (by decide) ?_) (fun w => ?_)
  · refine qd_yr (fun Z' e1 => ?_)
    have h' := h Z' e1
    show post (upd T j (nI (t + 1)) j) _
    rw [pk_us]
    exact h'
  · have w1 := qd_tM r1
    have w2 := qd_tG r2
    omega
end
section
/-- the two objects hold one graph; the component's code, if it stands, stands for it; k bounds the samples -/
def i_Rel (k : Nat) (u : SX) (v : SY) : Prop := qd_Re (10 * k) u v
theorem i_up {k : Nat} {u : SX} {v : SY} (h : i_Rel k u v) : i_Rel (k + 4) u v := qd_Re_up (by omega) h
theorem i_vc0 : wpX_init (fun u => wpY_init (fun v => i_Rel 0 u v)) := by
  have hB : qd_B 0 0 0 (fun _ => 0) (fun _ => 0) (fun _ => 0) (fun _ => 0) (fun _ => 0) (fun _ => 0) (fun _ => 0) (fun _ => 0) :=
    ⟨Nat.le_refl _, ⟨by omega, fun i hi => absurd hi (Nat.not_lt_zero _)⟩, fun _ => qd_rg0, rfl, fun _ _ => rfl, fun i hi => absurd hi (Nat.not_lt_zero _)⟩
  unfold wpX_init wpY_init i_Rel
  exact qd_Re_i hB (Or.inl rfl)
theorem i_vc_node {k : Nat} {u : SX} {v : SY} (I : i_Rel k u v) (hk : k + 4 ≤ 2048) (v1 : Int32) (v2 : Int32) (v3 : Int32) : wpX_node (fun r u' => wpY_node (fun r' v' => r' = r ∧ i_Rel (k + 4) u' v') v v1 v2 v3) u v1 v2 v3 := by
  refine I (fun u v => wpX_node (fun r u' => wpY_node (fun r' v' => r' = r ∧ i_Rel (k + 4) u' v') v v1 v2 v3) u v1 v2 v3) ?_
  intro n s co so pl ce hc ac K A S B T N F O op od cf C Z Q M hB hC
  have J : i_Rel (k + 4) ((nI n), co, so, pl, ce, hc, ac, nI s, K, A, S, T, N, F, O, op, od, cf, C) ((nI n), nI s, K, A, B, T, N, F, Z, Q, M) := qd_Re_i (qd_B_up (by omega) hB) hC
  have wf := hB.2.1
  have hn := wf.1
  rcases Nat.lt_or_ge n 20 with z | z
  · have c1 : ¬ nI n = 20 := fun w => by have := (nI_eq (b := 20) (by omega) (by omega)).mp w; omega
    refine qd_xnd z (fun nf => ?_) (fun f => ?_)
    · refine br_f c1 (qd_yfit (fun _ => br_t rfl ⟨rfl, J⟩) (fun f => absurd f nf))
    · obtain ⟨kd, hkd, ek, ok⟩ := qd_fit_ok (n := n) (K := K) (A := A) (S := S) (B := B) (T := T) (N := N) f
      refine qd_x122 z ek hkd (fun C' e1 e2 => ?_)
      refine br_f c1 (qd_yfit (fun nf => absurd f nf) (fun _ => br_f (by decide) ?_))
      have w1 : vp_in (nI n) 20 := vp_in_nI z (by omega)
      have k1 : (nI n).toNatClampNeg = n := nI_clamp (by omega)
      rw [k1]
      refine ⟨w1, nm_e ⟨w1, nm_e ⟨w1, nm_e ⟨w1, nm_e (nm_r (nI_1 n) (qd_yr (fun Z' e3 => ?_)))⟩⟩⟩⟩
      exact ⟨nI_pred n, qd_Re_i (s := 0) (qd_B0 (qd_WF_n z wf ok) hB.2.2.1 e1 e2 e3) (Or.inl rfl)⟩
  · have en : n = 20 := by omega
    subst en
    exact br_f (by decide) (br_t (by decide) ⟨rfl, J⟩)
theorem i_vc_tap {k : Nat} {u : SX} {v : SY} (I : i_Rel k u v) (hk : k + 4 ≤ 2048) (v1 : Int32) (v2 : Int32) (v3 : Int32) : wpX_tap (fun r u' => wpY_tap (fun r' v' => r' = r ∧ i_Rel (k + 4) u' v') v v1 v2 v3) u v1 v2 v3 := by
  refine I (fun u v => wpX_tap (fun r u' => wpY_tap (fun r' v' => r' = r ∧ i_Rel (k + 4) u' v') v v1 v2 v3) u v1 v2 v3) ?_
  intro n s co so pl ce hc ac K A S B T N F O op od cf C Z Q M hB hC
  have J : i_Rel (k + 4) ((nI n), co, so, pl, ce, hc, ac, nI s, K, A, S, T, N, F, O, op, od, cf, C) ((nI n), nI s, K, A, B, T, N, F, Z, Q, M) := qd_Re_i (qd_B_up (by omega) hB) hC
  have wf := hB.2.1
  have hn := wf.1
  rcases pk_ix v1 (n := n) (by omega) with z | z | ⟨j, hj, rfl⟩
  · exact br_t z (br_t z ⟨rfl, J⟩)
  · have z0 : ¬ v1 < 0 := fun w => by
      have a := qd_tL w
      have c := qd_tG z
      rw [qd_q0] at a
      rw [nI_toInt (by omega)] at c
      omega
    exact br_f z0 (br_t z (br_f z0 (br_t z ⟨rfl, J⟩)))
  · have c1 : ¬ nI j < 0 := nI_pos (by omega)
    have c2 : ¬ nI n ≤ nI j := nI_ge hj (by omega)
    have w1 : vp_in (nI j) 20 := vp_in_nI (by omega) (by omega)
    have k1 : (nI j).toNatClampNeg = j := nI_clamp (by omega)
    obtain ⟨kd, t, hkd, eK, ht, eT, -⟩ := wf.2 j hj
    by_cases y10 : K j = 10
    · have yK : K (nI j).toNatClampNeg = 10 := by rw [k1]; exact y10
      by_cases y2 : 0 ≤ v2.toInt ∧ v2.toInt ≤ 19
      · obtain ⟨a, ha, rfl⟩ := qd_of (m := 20) y2.1 (by omega) (by omega)
        have l1 := qd_i1
        have l2 := qd_i2
        by_cases y3 : -32768 ≤ v3.toInt ∧ v3.toInt ≤ 32767
        · have r1 : ¬ v3 < -32768 := fun w => by have := qd_tL w; omega
          have r2 : v3 ≤ 32767 := Int32.le_iff_toInt_le.mpr (by omega)
          rcases Nat.lt_or_ge t 6 with y4 | y4
          · refine qd_xtp hn hj ha eT y4 y10 r1 r2 (fun C' e1 e2 => ?_)
            refine qd_ytp hn hj ha eT y4 y10 r1 r2 (fun Z' e3 => ⟨rfl, ?_⟩)
            exact qd_Re_i (s := 0) (qd_B0 (qd_WF_t hj ha eT y4 y10 wf) hB.2.2.1 e1 e2 e3) (Or.inl rfl)
          · have e6 : t = 6 := by omega
            subst e6
            have f1 : ¬ T (nI j).toNatClampNeg < 6 := by rw [k1, eT]; decide
            have f2 : T (nI j).toNatClampNeg = 6 := by rw [k1]; exact eT
            refine br_f c1 (br_f c2 ⟨w1, br_t yK (qd_xnum (fun _ => br_f (by decide) (br_f r1 (br_t r2 ⟨w1, br_f f1 ?_⟩))) (fun w => absurd y2 w))⟩)
            exact br_f c1 (br_f c2 ⟨w1, br_t yK (qd_ynum (fun _ => br_f (by decide) (qd_yval (fun _ => br_f (by decide) ⟨w1, br_t f2 ⟨rfl, J⟩⟩) (fun w => absurd y3 w))) (fun w => absurd y2 w))⟩)
        · refine br_f c1 (br_f c2 ⟨w1, br_t yK (qd_xnum (fun _ => br_f (by decide) ?_) (fun w => absurd y2 w))⟩)
          have yy : wpY_tap (fun r' v' => r' = -1 ∧ i_Rel (k + 4) ((nI n), co, so, pl, ce, hc, ac, nI s, K, A, S, T, N, F, O, op, od, cf, C) v') ((nI n), nI s, K, A, B, T, N, F, Z, Q, M) (nI j) (nI a) v3 := br_f c1 (br_f c2 ⟨w1, br_t yK (qd_ynum (fun _ => br_f (by decide) (qd_yval (fun w => absurd w y3) (fun _ => br_t rfl ⟨rfl, J⟩))) (fun w => absurd y2 w))⟩)
          refine br_c (fun _ => yy) (fun r1 => br_f (fun r2 => y3 ?_) yy)
          have := qd_tM r1
          have := qd_tG r2
          omega
      · refine br_f c1 (br_f c2 ⟨w1, br_t yK (qd_xnum (fun w => absurd w y2) (fun _ => br_t rfl ?_))⟩)
        exact br_f c1 (br_f c2 ⟨w1, br_t yK (qd_ynum (fun w => absurd w y2) (fun _ => br_t rfl ⟨rfl, J⟩))⟩)
    · have yK : ¬ K (nI j).toNatClampNeg = 10 := by rw [k1]; exact y10
      exact br_f c1 (br_f c2 ⟨w1, br_f yK (br_f c1 (br_f c2 ⟨w1, br_f yK ⟨rfl, J⟩⟩))⟩)
theorem i_vc_nodes {k : Nat} {u : SX} {v : SY} (I : i_Rel k u v) (hk : k + 4 ≤ 2048) : wpX_nodes (fun r => wpY_nodes (fun r' => r' = r ∧ i_Rel (k + 4) u v) v) u := by
  refine I (fun u v => wpX_nodes (fun r => wpY_nodes (fun r' => r' = r ∧ i_Rel (k + 4) u v) v) u) ?_
  intro n s co so pl ce hc ac K A S B T N F O op od cf C Z Q M hB hC
  exact ⟨rfl, qd_Re_i (qd_B_up (by omega) hB) hC⟩
theorem i_vc_sound {k : Nat} {u : SX} {v : SY} (I : i_Rel k u v) (hk : k + 4 ≤ 2048) : wpX_sound (fun r u' => wpY_sound (fun r' v' => r' = r ∧ i_Rel (k + 4) u' v') v) u := by
  have H : wpX_compile (fun u => match u with | (fn, co, so, pl, ce, hc, ac, sc, K, A, S, T, N, F, O, op, od, cf, C) => (narrow .boolean (.int so) = .int so ∧ wpY_sound (fun r' v' => r' = so ∧ i_Rel (k + 4) (fn, co, so, pl, ce, hc, ac, sc, K, A, S, T, N, F, O, op, od, cf, C) v') v)) u := by
    refine qd_pre I (fun u1 I1 => ?_)
    refine I1 (fun u v => match u with | (fn, co, so, pl, ce, hc, ac, sc, K, A, S, T, N, F, O, op, od, cf, C) => (narrow .boolean (.int so) = .int so ∧ wpY_sound (fun r' v' => r' = so ∧ i_Rel (k + 4) (fn, co, so, pl, ce, hc, ac, sc, K, A, S, T, N, F, O, op, od, cf, C) v') v)) ?_
    intro n s so pl ce hc ac K A S B T N F O op od cf C Z Q M hB hC
    dsimp only
    have J : ∀ M, i_Rel (k + 4) ((nI n), 1, so, pl, ce, hc, ac, nI s, K, A, S, T, N, F, O, op, od, cf, C) ((nI n), nI s, K, A, B, T, N, F, Z, Q, M) := fun M => qd_Rc_Re (qd_Rc_i (qd_B_up (by omega) hB) hC)
    rcases hC with ⟨e, cy⟩ | ⟨e, r, -⟩
    · subst e
      exact ⟨narrow_b0, qd_yS0 hB.2.1 cy (fun M' => ⟨rfl, J M'⟩)⟩
    · subst e
      exact ⟨narrow_b1, qd_yS1 hB.2.1 r (fun M' => ⟨rfl, J M'⟩)⟩
  obtain ⟨fn, co, so, pl, ce, hc, ac, sc, K, A, S, T, N, F, O, op, od, cf, C⟩ := u
  exact H
theorem i_vc_feed {k : Nat} {u : SX} {v : SY} (I : i_Rel k u v) (hk : k + 4 ≤ 2048) (v1 : Int32) : wpX_feed (fun r u' => wpY_feed (fun r' v' => r' = r ∧ i_Rel (k + 4) u' v') v v1) u v1 :=
  qd_pF I (fun _ I1 => qd_xF (qd_Rc_x I1) (qd_yF I1 (by omega) (fun _ I' => ⟨rfl, qd_Re_up (by omega) (qd_Rc_Re I')⟩)))
theorem i_vc_repeat {k : Nat} {u : SX} {v : SY} (I : i_Rel k u v) (hk : k + 4 ≤ 2048) (v1 : Int32) (v2 : Int32) : wpX_repeat (fun r u' => wpY_repeat (fun r' v' => r' = r ∧ i_Rel (k + 4) u' v') v v1 v2) u v1 v2 := by
  have go : ∀ w, w ≤ 40 → ∃ f, qd_xrep (fun r u' => ∃ f', qd_yrep (fun r' v' => r' = r ∧ i_Rel (k + 4) u' v') v1 (nI w) f' 0 0 v) v1 (nI w) f 0 0 u := by
    intro w hw
    exact qd_rep I hw (by omega) (post := fun r u' r' v' => r' = r ∧ i_Rel (k + 4) u' v') (fun r u' v' I' => ⟨rfl, qd_Re_up (by omega) I'⟩)
  obtain ⟨fn, co, so, pl, ce, hc, ac, sc, K, A, S, T, N, F, O, op, od, cf, C⟩ := u
  obtain ⟨fn', ss', K', A', B', T', N', F', Z', Q', M'⟩ := v
  unfold wpX_repeat wpY_repeat
  dsimp only
  by_cases h0 : 0 ≤ v2
  · simp only [h0, true_implies, not_true, false_implies, and_true]
    by_cases h1 : v2 ≤ 40
    · simp only [h1, true_implies, not_true, false_implies, and_true]
      obtain ⟨j, hj, rfl⟩ := nI_of2 (n := 40) (M := 40) (by decide) (Int32.not_lt.mpr h0) h1
      exact go j hj
    · simp only [h1, not_false_iff, true_implies, false_implies, true_and]
      exact go 40 (by omega)
  · simp only [h0, not_false_iff, true_implies, false_implies, true_and]
    exact go 0 (by omega)
theorem i_vc_value {k : Nat} {u : SX} {v : SY} (I : i_Rel k u v) (hk : k + 4 ≤ 2048) (v1 : Int32) : wpX_value (fun r => wpY_value (fun r' => r' = r ∧ i_Rel (k + 4) u v) v v1) u v1 := by
  refine I (fun u v => wpX_value (fun r => wpY_value (fun r' => r' = r ∧ i_Rel (k + 4) u v) v v1) u v1) ?_
  intro n s co so pl ce hc ac K A S B T N F O op od cf C Z Q M hB hC
  have J : i_Rel (k + 4) ((nI n), co, so, pl, ce, hc, ac, nI s, K, A, S, T, N, F, O, op, od, cf, C) ((nI n), nI s, K, A, B, T, N, F, Z, Q, M) := qd_Re_i (qd_B_up (by omega) hB) hC
  have hn := hB.2.1.1
  rcases pk_ix v1 (n := n) (by omega) with z | z | ⟨j, hj, rfl⟩
  · exact br_t z (br_t z ⟨rfl, J⟩)
  · have z0 : ¬ v1 < 0 := fun w => by
      have a := qd_tL w
      have c := qd_tG z
      rw [qd_q0] at a
      rw [nI_toInt (by omega)] at c
      omega
    exact br_f z0 (br_t z (br_f z0 (br_t z ⟨rfl, J⟩)))
  · have c1 : ¬ nI j < 0 := nI_pos (by omega)
    have c2 : ¬ nI n ≤ nI j := nI_ge hj (by omega)
    have w1 : vp_in (nI j) 20 := vp_in_nI (by omega) (by omega)
    have w2 : vp_in (nI j) 42 := vp_in_nI (by omega) (by omega)
    have k1 : (nI j).toNatClampNeg = j := nI_clamp (by omega)
    refine br_f c1 (br_f c2 (br_c (fun y => br_f c1 (br_f c2 (br_t y ⟨rfl, J⟩))) (fun y => ⟨w2, br_f c1 (br_f c2 (br_f y ⟨w1, ?_, J⟩))⟩)))
    rw [k1]
    exact (hB.2.2.2.2.1 j hj).symm
theorem i_vc_samples {k : Nat} {u : SX} {v : SY} (I : i_Rel k u v) (hk : k + 4 ≤ 2048) : wpX_samples (fun r => wpY_samples (fun r' => r' = r ∧ i_Rel (k + 4) u v) v) u := by
  refine I (fun u v => wpX_samples (fun r => wpY_samples (fun r' => r' = r ∧ i_Rel (k + 4) u v) v) u) ?_
  intro n s co so pl ce hc ac K A S B T N F O op od cf C Z Q M hB hC
  exact ⟨rfl, qd_Re_i (qd_B_up (by omega) hB) hC⟩
theorem i_vc_restart {k : Nat} {u : SX} {v : SY} (I : i_Rel k u v) (hk : k + 4 ≤ 2048) : wpX_restart (fun u' => wpY_restart (fun v' => i_Rel (k + 4) u' v') v) u := by
  refine I (fun u v => wpX_restart (fun u' => wpY_restart (fun v' => i_Rel (k + 4) u' v') v) u) ?_
  intro n s co so pl ce hc ac K A S B T N F O op od cf C Z Q M hB hC
  exact qd_xr (fun C' e1 e2 => qd_yr (fun Z' e3 => qd_Re_i (s := 0) (qd_B0 hB.2.1 hB.2.2.1 e1 e2 e3) hC))
theorem i_vc_clear {k : Nat} {u : SX} {v : SY} (I : i_Rel k u v) (hk : k + 4 ≤ 2048) : wpX_clear (fun r u' => wpY_clear (fun r' v' => r' = r ∧ i_Rel (k + 4) u' v') v) u := by
  refine I (fun u v => wpX_clear (fun r u' => wpY_clear (fun r' v' => r' = r ∧ i_Rel (k + 4) u' v') v) u) ?_
  intro n s co so pl ce hc ac K A S B T N F O op od cf C Z Q M hB hC
  unfold wpX_clear wpY_clear
  refine qd_xr (fun C' e1 e2 => qd_yr (fun Z' e3 => ⟨rfl, qd_Re_i (n := 0) (s := 0) (qd_B0 ⟨by omega, fun i hi => absurd hi (Nat.not_lt_zero _)⟩ hB.2.2.1 e1 e2 e3) (Or.inl rfl)⟩))
end
