section
/-! pure rows to paste: stores, nI and lN arithmetic, masks, shifts, narrowing, branches by naturals (pk_le, pk_lt, pk_eq), loops (lp1 .. lp16: the measure of the state; rp1 ..: recursion), negatives. Take what you need -/
theorem pk_us {f : Nat → Int32} {k : Nat} {x : Int32} : upd f k x k = x := if_pos rfl
theorem pk_un {f : Nat → Int32} {k j : Nat} {x : Int32} (h : j ≠ k) : upd f k x j = f j := if_neg h
theorem pk_uLs {f : Nat → Int64} {k : Nat} {x : Int64} : vp_updL f k x k = x := if_pos rfl
theorem pk_uLn {f : Nat → Int64} {k j : Nat} {x : Int64} (h : j ≠ k) : vp_updL f k x j = f j := if_neg h
theorem pk_sub {a b : Nat} (h : b ≤ a) : nI a - nI b = nI (a - b) := by
  obtain ⟨c, rfl⟩ : ∃ c, a = c + b := ⟨a - b, by omega⟩
  rw [← nI_add, Int32.add_sub_cancel, Nat.add_sub_cancel]
theorem pk_m1 (n : Nat) : nI (n + 1) + (-1) = nI n := by
  rw [← nI_1, Int32.add_assoc, show (1 : Int32) + (-1) = 0 from rfl, Int32.add_zero]
theorem pk_mul (a b : Nat) : nI a * nI b = nI (a * b) := (Int32.ofNat_mul a b).symm
theorem pk_div {a d : Nat} (ha : a < 2 ^ 31) (h0 : 0 < d) (hd : d < 2 ^ 31) : nI a / nI d = nI (a / d) := by
  apply Int32.toInt_inj.mp
  rw [lg_idiv_nonneg (by rw [nI_toInt ha]; omega) (by rw [nI_toInt hd]; omega), nI_toInt ha, nI_toInt hd, nI_toInt (Nat.lt_of_le_of_lt (Nat.div_le_self a d) ha)]
  first | rfl | exact (Int.natCast_ediv _ _).symm
theorem pk_rem {a d : Nat} (ha : a < 2 ^ 31) (h0 : 0 < d) (hd : d < 2 ^ 31) : nI a - nI a / nI d * nI d = nI (a % d) := by
  rw [pk_div ha h0 hd, pk_mul, pk_sub (Nat.div_mul_le_self a d)]
  exact congrArg nI (by have := Nat.div_add_mod' a d; omega)
theorem pk_sub_toInt {a b : Nat} (ha : a < 2 ^ 30) (hb : b < 2 ^ 30) : (nI a - nI b).toInt = (a : Int) - b := by
  rw [Int32.toInt_sub, nI_toInt (by omega), nI_toInt (by omega)]
  exact Int.bmod_eq_of_le (by omega) (by omega)
theorem pk_sneg {a b : Nat} (hb : b < 2 ^ 30) (h : a < b) : nI a - nI b < 0 := by
  rw [Int32.lt_iff_toInt_lt, pk_sub_toInt (by omega) hb, show (0 : Int32).toInt = 0 from by decide]
  omega
theorem pk_ix (x : Int32) {n : Nat} (hn : n < 2 ^ 31) : x < 0 ∨ nI n ≤ x ∨ ∃ j : Nat, j < n ∧ x = nI j := by
  by_cases h : x < 0
  · exact Or.inl h
  · obtain ⟨j, hj, rfl⟩ := nI_of h
    by_cases h2 : j < n
    · exact Or.inr (Or.inr ⟨j, h2, rfl⟩)
    · exact Or.inr (Or.inl (nI_le (by omega) hj))
theorem pk_le {x y : Int32} {A B : Prop} (a b : Nat) (f : a ≤ b → A) (g : b < a → B) (hx : x = nI a := by rfl) (hy : y = nI b := by rfl) (ha : a < 2 ^ 31 := by omega) (hb : b < 2 ^ 31 := by omega) : (x ≤ y → A) ∧ (¬ x ≤ y → B) := by
  subst hx hy
  rw [nI_leI ha hb]
  exact ⟨f, fun z => g (by omega)⟩
theorem pk_lt {x y : Int32} {A B : Prop} (a b : Nat) (f : a < b → A) (g : b ≤ a → B) (hx : x = nI a := by rfl) (hy : y = nI b := by rfl) (ha : a < 2 ^ 31 := by omega) (hb : b < 2 ^ 31 := by omega) : (x < y → A) ∧ (¬ x < y → B) := by
  subst hx hy
  rw [nI_ltI ha hb]
  exact ⟨f, fun z => g (by omega)⟩
theorem pk_eq {x y : Int32} {A B : Prop} (a b : Nat) (f : a = b → A) (g : a ≠ b → B) (hx : x = nI a := by rfl) (hy : y = nI b := by rfl) (ha : a < 2 ^ 31 := by omega) (hb : b < 2 ^ 31 := by omega) : (x = y → A) ∧ (¬ x = y → B) := by
  subst hx hy
  rw [nI_eq ha hb]
  exact ⟨f, g⟩
theorem pk_in {x : Int32} (n N : Nat) (h : n < N) (hx : x = nI n := by rfl) (hN : N < 2 ^ 31 := by omega) : vp_in x N := by
  subst hx
  exact vp_in_nI h hN
theorem pk_cl {x : Int32} (n : Nat) (hx : x = nI n := by rfl) (h : n < 2 ^ 31 := by omega) : x.toNatClampNeg = n := by
  subst hx
  exact nI_clamp h
theorem pk_tn {n : Nat} (h : n < 2 ^ 32) : (nI n).toBitVec.toNat = n := Nat.mod_eq_of_lt h
theorem pk_and (x : Int32) {m : Int32} (k : Nat) (hm : m.toBitVec.toNat = 2 ^ k - 1) : x &&& m = nI (x.toBitVec.toNat % 2 ^ k) := by
  apply Int32.toBitVec_inj.mp
  apply BitVec.eq_of_toNat_eq
  rw [Int32.toBitVec_and, BitVec.toNat_and, hm, Nat.and_two_pow_sub_one_eq_mod]
  show _ = (BitVec.ofNat 32 _).toNat
  rw [BitVec.toNat_ofNat]
  exact (Nat.mod_eq_of_lt (Nat.lt_of_le_of_lt (Nat.mod_le _ _) x.toBitVec.isLt)).symm
theorem pk_andN {n : Nat} (h : n < 2 ^ 32) {m : Int32} (k : Nat) (hm : m.toBitVec.toNat = 2 ^ k - 1) : nI n &&& m = nI (n % 2 ^ k) := by
  rw [pk_and _ k hm, pk_tn h]
theorem pk_andE (x : Int32) {m : Int32} (k : Nat) (hm : m.toBitVec.toNat = 2 ^ k - 1) : ∃ j : Nat, j < 2 ^ k ∧ x &&& m = nI j := ⟨_, Nat.mod_lt _ (Nat.two_pow_pos k), pk_and x k hm⟩
theorem pk_andIn (x : Int32) {m : Int32} (k : Nat) (hm : m.toBitVec.toNat = 2 ^ k - 1) (hk : k ≤ 30) : vp_in (x &&& m) (2 ^ k) := by
  obtain ⟨j, hj, e⟩ := pk_andE x k hm
  rw [e]
  exact vp_in_nI hj (Nat.lt_of_le_of_lt (Nat.pow_le_pow_right (by decide) hk) (by decide))
theorem pk_shl (a s : Int32) (k : Nat) (hs : (s.toBitVec.smod 32).toNat = k) : (a <<< s).toBitVec.toNat = a.toBitVec.toNat * 2 ^ k % 2 ^ 32 := by
  show (a.toBitVec <<< (s.toBitVec.smod 32).toNat).toNat = _
  rw [hs, BitVec.toNat_shiftLeft, Nat.shiftLeft_eq]
theorem pk_shlN {n : Nat} (s : Int32) (k : Nat) (hs : (s.toBitVec.smod 32).toNat = k) (h : n * 2 ^ k < 2 ^ 32) : nI n <<< s = nI (n * 2 ^ k) := by
  apply Int32.toBitVec_inj.mp
  apply BitVec.eq_of_toNat_eq
  have hn : n < 2 ^ 32 := Nat.lt_of_le_of_lt (Nat.le_mul_of_pos_right n (Nat.two_pow_pos k)) h
  rw [pk_shl _ _ k hs, pk_tn hn, pk_tn h, Nat.mod_eq_of_lt h]
theorem pk_shr (a s : Int32) (k : Nat) (hs : (s.toBitVec.smod 32).toNat = k) : (a >>> s).toInt = a.toInt >>> k := by
  show (a.toBitVec.sshiftRight (s.toBitVec.smod 32).toNat).toInt = _
  rw [hs, BitVec.toInt_sshiftRight]
  rfl
theorem pk_shrN {n : Nat} (h : n < 2 ^ 31) (s : Int32) (k : Nat) (hs : (s.toBitVec.smod 32).toNat = k) : nI n >>> s = nI (n / 2 ^ k) := by
  apply Int32.toInt_inj.mp
  have h2 : n / 2 ^ k ≤ n := Nat.div_le_self _ _
  rw [pk_shr _ _ k hs, nI_toInt h, nI_toInt (by omega), Int.shiftRight_eq_div_pow]
  rfl
theorem pk_ushr (x s : Int32) (k : Nat) (hs : ((s.toUInt32 &&& Int32.toUInt32 31).toBitVec % 32).toNat = k) : (x.toUInt32 >>> (s.toUInt32 &&& Int32.toUInt32 31)).toInt32.toBitVec.toNat = x.toBitVec.toNat / 2 ^ k := by
  have e : (x.toUInt32 >>> (s.toUInt32 &&& Int32.toUInt32 31)).toInt32.toBitVec = x.toBitVec >>> k := by
    rw [← hs]
    exact UInt32.toBitVec_shiftRight _ _
  rw [e, BitVec.toNat_ushiftRight, Nat.shiftRight_eq_div_pow]
theorem pk_ushrN {n : Nat} (hn : n < 2 ^ 32) (s : Int32) (k : Nat) (hs : ((s.toUInt32 &&& Int32.toUInt32 31).toBitVec % 32).toNat = k) : ((nI n).toUInt32 >>> (s.toUInt32 &&& Int32.toUInt32 31)).toInt32 = nI (n / 2 ^ k) := by
  apply Int32.toBitVec_inj.mp
  apply BitVec.eq_of_toNat_eq
  rw [pk_ushr _ s k hs, pk_tn hn, pk_tn (Nat.lt_of_le_of_lt (Nat.div_le_self _ _) hn)]
theorem pk_nb (z : Int32) : narrow .byte (.int z.toInt8.toInt32) = .int z.toInt8.toInt32 := congrArg Value.int (by simp)
theorem pk_ns (z : Int32) : narrow .short (.int z.toInt16.toInt32) = .int z.toInt16.toInt32 := congrArg Value.int (by simp)
theorem pk_fb (r : Int32) : fits .byte (.int r.toInt8.toInt32) = true := by
  have ⟨a, b⟩ := lg_i2b_range r
  have h1 : (-128 : Int32).toInt = -128 := by decide
  have h2 : (127 : Int32).toInt = 127 := by decide
  simp only [fits, Bool.and_eq_true, decide_eq_true_eq, Int32.le_iff_toInt_le, h1, h2]
  omega
theorem pk_fs (r : Int32) : fits .short (.int r.toInt16.toInt32) = true := by
  have ⟨a, b⟩ := lg_i2s_range r
  have h1 : (-32768 : Int32).toInt = -32768 := by decide
  have h2 : (32767 : Int32).toInt = 32767 := by decide
  simp only [fits, Bool.and_eq_true, decide_eq_true_eq, Int32.le_iff_toInt_le, h1, h2]
  omega
theorem pk_charN {q : Nat} (hq : q < 65536) : narrow .char (.int (nI q)) = .int (nI q) ∧ fits .char (.int (nI q)) = true := by
  constructor
  · have e : (nI q).toUInt32.toUInt16.toUInt32.toInt32 = nI q := by
      apply Int32.toBitVec_inj.mp
      apply BitVec.eq_of_toNat_eq
      show (nI q).toUInt32.toUInt16.toUInt32.toNat = q % 2 ^ 32
      rw [UInt16.toNat_toUInt32, UInt32.toNat_toUInt16, show (nI q).toUInt32.toNat = q % 2 ^ 32 from rfl]
      omega
    exact congrArg Value.int e
  · have a : (0 : Int32) ≤ nI q := nI_pos' (by omega)
    have b : nI q ≤ 65535 := nI_le (b := 65535) (by omega) (by decide)
    show (decide ((0 : Int32) ≤ nI q) && decide (nI q ≤ 65535)) = true
    rw [decide_eq_true a, decide_eq_true b]
    rfl
theorem pk_char (x : Int32) : (x.toUInt32 % 65536).toInt32 = nI (x.toBitVec.toNat % 65536) := by
  apply Int32.toBitVec_inj.mp
  apply BitVec.eq_of_toNat_eq
  rw [pk_tn (by omega)]
  show (x.toUInt32 % 65536).toNat = _
  rw [UInt32.toNat_mod]
  rfl
theorem pk_nc (x : Int32) : narrow .char (.int (x.toUInt32 % 65536).toInt32) = .int (x.toUInt32 % 65536).toInt32 := by
  rw [pk_char]
  exact (pk_charN (Nat.mod_lt _ (by decide))).1
theorem pk_fc (x : Int32) : fits .char (.int (x.toUInt32 % 65536).toInt32) = true := by
  rw [pk_char]
  exact (pk_charN (Nat.mod_lt _ (by decide))).2
theorem pk_vb (z : Int32) : vp_nar .byte z.toInt8.toInt32 = z.toInt8.toInt32 := by rw [vp_nar_byte]; simp
theorem pk_vs (z : Int32) : vp_nar .short z.toInt16.toInt32 = z.toInt16.toInt32 := by rw [vp_nar_short]; simp
theorem pk_vc (z : Int32) : vp_nar .char (z.toUInt32 % 65536).toInt32 = (z.toUInt32 % 65536).toInt32 := Value.int.inj (pk_nc z)
theorem pk_lT {n : Nat} (h : n < 2 ^ 63) : (lN n).toInt = (n : Int) := lg_ofNat_toInt h
theorem pk_lLT {a b : Nat} (ha : a < 2 ^ 63) (hb : b < 2 ^ 63) : lN a < lN b ↔ a < b := by
  rw [Int64.lt_iff_toInt_lt, pk_lT ha, pk_lT hb]; omega
theorem pk_lLE {a b : Nat} (ha : a < 2 ^ 63) (hb : b < 2 ^ 63) : lN a ≤ lN b ↔ a ≤ b := by
  rw [Int64.le_iff_toInt_le, pk_lT ha, pk_lT hb]; omega
theorem pk_lEQ {a b : Nat} (ha : a < 2 ^ 63) (hb : b < 2 ^ 63) : lN a = lN b ↔ a = b := by
  rw [← Int64.toInt_inj, pk_lT ha, pk_lT hb]; omega
theorem pk_lOf {x : Int64} (h : ¬ x < 0) : ∃ k : Nat, k < 2 ^ 63 ∧ x = lN k := by
  rw [Int64.lt_iff_toInt_lt] at h
  have h0 : (0 : Int64).toInt = 0 := by decide
  have hx := Int64.toInt_lt x
  refine ⟨x.toInt.toNat, by omega, Int64.toInt_inj.mp ?_⟩
  rw [pk_lT (by omega)]
  omega
theorem pk_lDiv {a b : Nat} (ha : a < 2 ^ 63) (h0 : 0 < b) (hb : b < 2 ^ 63) : lN a / lN b = lN (a / b) := by
  apply Int64.toInt_inj.mp
  rw [lg_ldiv_nonneg (by rw [pk_lT ha]; omega) (by rw [pk_lT hb]; omega), pk_lT ha, pk_lT hb, pk_lT (Nat.lt_of_le_of_lt (Nat.div_le_self a b) ha)]
  rfl
theorem pk_lRem {a b : Nat} (ha : a < 2 ^ 63) (h0 : 0 < b) (hb : b < 2 ^ 63) : lN a - lN a / lN b * lN b = lN (a % b) := by
  rw [pk_lDiv ha h0 hb, lN_mul, lN_sub (Nat.div_mul_le_self a b)]
  exact congrArg lN (by have := Nat.div_add_mod' a b; omega)
theorem pk_loop {σ : Type} (W : Nat → Nat → σ → Prop) (I : Nat → σ → Prop) (e i0 : Nat) (s : σ) (hi : i0 ≤ e) (h0 : I i0 s) (hx : ∀ n s, I e s → W (n + 1) e s)
    (hs : ∀ n i s, i < e → I i s → (∀ s', I (i + 1) s' → W n (i + 1) s') → W (n + 1) i s) : ∃ n, W n i0 s :=
  ⟨e + 1, loop_i W I e hx hs (e + 1) i0 s hi (by omega) h0⟩
theorem pk_loopD {σ : Type} (W : Nat → Nat → σ → Prop) (I : Nat → σ → Prop) (hx : ∀ n s, I 0 s → W (n + 1) 0 s)
    (hs : ∀ n i s, I (i + 1) s → (∀ s', I i s' → W n i s') → W (n + 1) (i + 1) s) : ∀ (e : Nat) (s : σ), I e s → W (e + 1) e s := by
  intro e
  induction e with
  | zero => exact fun s h => hx 0 s h
  | succ e ih => exact fun s h => hs (e + 1) e s h (fun s' h' => ih s' h')
theorem lp1 {A1 : Type} (W : Nat → A1 → Prop) (I : A1 → Prop) (μ : A1 → Nat) (hs : ∀ (n : Nat) (a1 : A1), I a1 → (∀ (b1 : A1), I b1 → μ b1 < μ a1 → W n b1) → W (n + 1) a1) (a1 : A1) (h : I a1) : ∃ n, W n a1 :=
  loop_m (σ := A1) (fun n s => W n s) (fun s => I s) (fun s => μ s) (fun n s hI hk => hs n s hI (fun b1 h9 hm => hk b1 h9 hm)) a1 h
theorem lp2 {A1 A2 : Type} (W : Nat → A1 → A2 → Prop) (I : A1 → A2 → Prop) (μ : A1 → A2 → Nat) (hs : ∀ (n : Nat) (a1 : A1) (a2 : A2), I a1 a2 → (∀ (b1 : A1) (b2 : A2), I b1 b2 → μ b1 b2 < μ a1 a2 → W n b1 b2) → W (n + 1) a1 a2) (a1 : A1) (a2 : A2) (h : I a1 a2) : ∃ n, W n a1 a2 :=
  loop_m (σ := A1 × A2) (fun n s => W n s.1 s.2) (fun s => I s.1 s.2) (fun s => μ s.1 s.2) (fun n s hI hk => hs n s.1 s.2 hI (fun b1 b2 h9 hm => hk (b1, b2) h9 hm)) (a1, a2) h
theorem lp3 {A1 A2 A3 : Type} (W : Nat → A1 → A2 → A3 → Prop) (I : A1 → A2 → A3 → Prop) (μ : A1 → A2 → A3 → Nat) (hs : ∀ (n : Nat) (a1 : A1) (a2 : A2) (a3 : A3), I a1 a2 a3 → (∀ (b1 : A1) (b2 : A2) (b3 : A3), I b1 b2 b3 → μ b1 b2 b3 < μ a1 a2 a3 → W n b1 b2 b3) → W (n + 1) a1 a2 a3) (a1 : A1) (a2 : A2) (a3 : A3) (h : I a1 a2 a3) : ∃ n, W n a1 a2 a3 :=
  loop_m (σ := A1 × A2 × A3) (fun n s => W n s.1 s.2.1 s.2.2) (fun s => I s.1 s.2.1 s.2.2) (fun s => μ s.1 s.2.1 s.2.2) (fun n s hI hk => hs n s.1 s.2.1 s.2.2 hI (fun b1 b2 b3 h9 hm => hk (b1, b2, b3) h9 hm)) (a1, a2, a3) h
theorem lp4 {A1 A2 A3 A4 : Type} (W : Nat → A1 → A2 → A3 → A4 → Prop) (I : A1 → A2 → A3 → A4 → Prop) (μ : A1 → A2 → A3 → A4 → Nat) (hs : ∀ (n : Nat) (a1 : A1) (a2 : A2) (a3 : A3) (a4 : A4), I a1 a2 a3 a4 → (∀ (b1 : A1) (b2 : A2) (b3 : A3) (b4 : A4), I b1 b2 b3 b4 → μ b1 b2 b3 b4 < μ a1 a2 a3 a4 → W n b1 b2 b3 b4) → W (n + 1) a1 a2 a3 a4) (a1 : A1) (a2 : A2) (a3 : A3) (a4 : A4) (h : I a1 a2 a3 a4) : ∃ n, W n a1 a2 a3 a4 :=
  loop_m (σ := A1 × A2 × A3 × A4) (fun n s => W n s.1 s.2.1 s.2.2.1 s.2.2.2) (fun s => I s.1 s.2.1 s.2.2.1 s.2.2.2) (fun s => μ s.1 s.2.1 s.2.2.1 s.2.2.2) (fun n s hI hk => hs n s.1 s.2.1 s.2.2.1 s.2.2.2 hI (fun b1 b2 b3 b4 h9 hm => hk (b1, b2, b3, b4) h9 hm)) (a1, a2, a3, a4) h
theorem lp5 {A1 A2 A3 A4 A5 : Type} (W : Nat → A1 → A2 → A3 → A4 → A5 → Prop) (I : A1 → A2 → A3 → A4 → A5 → Prop) (μ : A1 → A2 → A3 → A4 → A5 → Nat) (hs : ∀ (n : Nat) (a1 : A1) (a2 : A2) (a3 : A3) (a4 : A4) (a5 : A5), I a1 a2 a3 a4 a5 → (∀ (b1 : A1) (b2 : A2) (b3 : A3) (b4 : A4) (b5 : A5), I b1 b2 b3 b4 b5 → μ b1 b2 b3 b4 b5 < μ a1 a2 a3 a4 a5 → W n b1 b2 b3 b4 b5) → W (n + 1) a1 a2 a3 a4 a5) (a1 : A1) (a2 : A2) (a3 : A3) (a4 : A4) (a5 : A5) (h : I a1 a2 a3 a4 a5) : ∃ n, W n a1 a2 a3 a4 a5 :=
  loop_m (σ := A1 × A2 × A3 × A4 × A5) (fun n s => W n s.1 s.2.1 s.2.2.1 s.2.2.2.1 s.2.2.2.2) (fun s => I s.1 s.2.1 s.2.2.1 s.2.2.2.1 s.2.2.2.2) (fun s => μ s.1 s.2.1 s.2.2.1 s.2.2.2.1 s.2.2.2.2) (fun n s hI hk => hs n s.1 s.2.1 s.2.2.1 s.2.2.2.1 s.2.2.2.2 hI (fun b1 b2 b3 b4 b5 h9 hm => hk (b1, b2, b3, b4, b5) h9 hm)) (a1, a2, a3, a4, a5) h
theorem lp6 {A1 A2 A3 A4 A5 A6 : Type} (W : Nat → A1 → A2 → A3 → A4 → A5 → A6 → Prop) (I : A1 → A2 → A3 → A4 → A5 → A6 → Prop) (μ : A1 → A2 → A3 → A4 → A5 → A6 → Nat) (hs : ∀ (n : Nat) (a1 : A1) (a2 : A2) (a3 : A3) (a4 : A4) (a5 : A5) (a6 : A6), I a1 a2 a3 a4 a5 a6 → (∀ (b1 : A1) (b2 : A2) (b3 : A3) (b4 : A4) (b5 : A5) (b6 : A6), I b1 b2 b3 b4 b5 b6 → μ b1 b2 b3 b4 b5 b6 < μ a1 a2 a3 a4 a5 a6 → W n b1 b2 b3 b4 b5 b6) → W (n + 1) a1 a2 a3 a4 a5 a6) (a1 : A1) (a2 : A2) (a3 : A3) (a4 : A4) (a5 : A5) (a6 : A6) (h : I a1 a2 a3 a4 a5 a6) : ∃ n, W n a1 a2 a3 a4 a5 a6 :=
  loop_m (σ := A1 × A2 × A3 × A4 × A5 × A6) (fun n s => W n s.1 s.2.1 s.2.2.1 s.2.2.2.1 s.2.2.2.2.1 s.2.2.2.2.2) (fun s => I s.1 s.2.1 s.2.2.1 s.2.2.2.1 s.2.2.2.2.1 s.2.2.2.2.2) (fun s => μ s.1 s.2.1 s.2.2.1 s.2.2.2.1 s.2.2.2.2.1 s.2.2.2.2.2) (fun n s hI hk => hs n s.1 s.2.1 s.2.2.1 s.2.2.2.1 s.2.2.2.2.1 s.2.2.2.2.2 hI (fun b1 b2 b3 b4 b5 b6 h9 hm => hk (b1, b2, b3, b4, b5, b6) h9 hm)) (a1, a2, a3, a4, a5, a6) h
theorem lp7 {A1 A2 A3 A4 A5 A6 A7 : Type} (W : Nat → A1 → A2 → A3 → A4 → A5 → A6 → A7 → Prop) (I : A1 → A2 → A3 → A4 → A5 → A6 → A7 → Prop) (μ : A1 → A2 → A3 → A4 → A5 → A6 → A7 → Nat) (hs : ∀ (n : Nat) (a1 : A1) (a2 : A2) (a3 : A3) (a4 : A4) (a5 : A5) (a6 : A6) (a7 : A7), I a1 a2 a3 a4 a5 a6 a7 → (∀ (b1 : A1) (b2 : A2) (b3 : A3) (b4 : A4) (b5 : A5) (b6 : A6) (b7 : A7), I b1 b2 b3 b4 b5 b6 b7 → μ b1 b2 b3 b4 b5 b6 b7 < μ a1 a2 a3 a4 a5 a6 a7 → W n b1 b2 b3 b4 b5 b6 b7) → W (n + 1) a1 a2 a3 a4 a5 a6 a7) (a1 : A1) (a2 : A2) (a3 : A3) (a4 : A4) (a5 : A5) (a6 : A6) (a7 : A7) (h : I a1 a2 a3 a4 a5 a6 a7) : ∃ n, W n a1 a2 a3 a4 a5 a6 a7 :=
  loop_m (σ := A1 × A2 × A3 × A4 × A5 × A6 × A7) (fun n s => W n s.1 s.2.1 s.2.2.1 s.2.2.2.1 s.2.2.2.2.1 s.2.2.2.2.2.1 s.2.2.2.2.2.2) (fun s => I s.1 s.2.1 s.2.2.1 s.2.2.2.1 s.2.2.2.2.1 s.2.2.2.2.2.1 s.2.2.2.2.2.2) (fun s => μ s.1 s.2.1 s.2.2.1 s.2.2.2.1 s.2.2.2.2.1 s.2.2.2.2.2.1 s.2.2.2.2.2.2) (fun n s hI hk => hs n s.1 s.2.1 s.2.2.1 s.2.2.2.1 s.2.2.2.2.1 s.2.2.2.2.2.1 s.2.2.2.2.2.2 hI (fun b1 b2 b3 b4 b5 b6 b7 h9 hm => hk (b1, b2, b3, b4, b5, b6, b7) h9 hm)) (a1, a2, a3, a4, a5, a6, a7) h
theorem lp8 {A1 A2 A3 A4 A5 A6 A7 A8 : Type} (W : Nat → A1 → A2 → A3 → A4 → A5 → A6 → A7 → A8 → Prop) (I : A1 → A2 → A3 → A4 → A5 → A6 → A7 → A8 → Prop) (μ : A1 → A2 → A3 → A4 → A5 → A6 → A7 → A8 → Nat) (hs : ∀ (n : Nat) (a1 : A1) (a2 : A2) (a3 : A3) (a4 : A4) (a5 : A5) (a6 : A6) (a7 : A7) (a8 : A8), I a1 a2 a3 a4 a5 a6 a7 a8 → (∀ (b1 : A1) (b2 : A2) (b3 : A3) (b4 : A4) (b5 : A5) (b6 : A6) (b7 : A7) (b8 : A8), I b1 b2 b3 b4 b5 b6 b7 b8 → μ b1 b2 b3 b4 b5 b6 b7 b8 < μ a1 a2 a3 a4 a5 a6 a7 a8 → W n b1 b2 b3 b4 b5 b6 b7 b8) → W (n + 1) a1 a2 a3 a4 a5 a6 a7 a8) (a1 : A1) (a2 : A2) (a3 : A3) (a4 : A4) (a5 : A5) (a6 : A6) (a7 : A7) (a8 : A8) (h : I a1 a2 a3 a4 a5 a6 a7 a8) : ∃ n, W n a1 a2 a3 a4 a5 a6 a7 a8 :=
  loop_m (σ := A1 × A2 × A3 × A4 × A5 × A6 × A7 × A8) (fun n s => W n s.1 s.2.1 s.2.2.1 s.2.2.2.1 s.2.2.2.2.1 s.2.2.2.2.2.1 s.2.2.2.2.2.2.1 s.2.2.2.2.2.2.2) (fun s => I s.1 s.2.1 s.2.2.1 s.2.2.2.1 s.2.2.2.2.1 s.2.2.2.2.2.1 s.2.2.2.2.2.2.1 s.2.2.2.2.2.2.2) (fun s => μ s.1 s.2.1 s.2.2.1 s.2.2.2.1 s.2.2.2.2.1 s.2.2.2.2.2.1 s.2.2.2.2.2.2.1 s.2.2.2.2.2.2.2) (fun n s hI hk => hs n s.1 s.2.1 s.2.2.1 s.2.2.2.1 s.2.2.2.2.1 s.2.2.2.2.2.1 s.2.2.2.2.2.2.1 s.2.2.2.2.2.2.2 hI (fun b1 b2 b3 b4 b5 b6 b7 b8 h9 hm => hk (b1, b2, b3, b4, b5, b6, b7, b8) h9 hm)) (a1, a2, a3, a4, a5, a6, a7, a8) h
theorem lp9 {A1 A2 A3 A4 A5 A6 A7 A8 A9 : Type} (W : Nat → A1 → A2 → A3 → A4 → A5 → A6 → A7 → A8 → A9 → Prop) (I : A1 → A2 → A3 → A4 → A5 → A6 → A7 → A8 → A9 → Prop) (μ : A1 → A2 → A3 → A4 → A5 → A6 → A7 → A8 → A9 → Nat) (hs : ∀ (n : Nat) (a1 : A1) (a2 : A2) (a3 : A3) (a4 : A4) (a5 : A5) (a6 : A6) (a7 : A7) (a8 : A8) (a9 : A9), I a1 a2 a3 a4 a5 a6 a7 a8 a9 → (∀ (b1 : A1) (b2 : A2) (b3 : A3) (b4 : A4) (b5 : A5) (b6 : A6) (b7 : A7) (b8 : A8) (b9 : A9), I b1 b2 b3 b4 b5 b6 b7 b8 b9 → μ b1 b2 b3 b4 b5 b6 b7 b8 b9 < μ a1 a2 a3 a4 a5 a6 a7 a8 a9 → W n b1 b2 b3 b4 b5 b6 b7 b8 b9) → W (n + 1) a1 a2 a3 a4 a5 a6 a7 a8 a9) (a1 : A1) (a2 : A2) (a3 : A3) (a4 : A4) (a5 : A5) (a6 : A6) (a7 : A7) (a8 : A8) (a9 : A9) (h : I a1 a2 a3 a4 a5 a6 a7 a8 a9) : ∃ n, W n a1 a2 a3 a4 a5 a6 a7 a8 a9 :=
  loop_m (σ := A1 × A2 × A3 × A4 × A5 × A6 × A7 × A8 × A9) (fun n s => W n s.1 s.2.1 s.2.2.1 s.2.2.2.1 s.2.2.2.2.1 s.2.2.2.2.2.1 s.2.2.2.2.2.2.1 s.2.2.2.2.2.2.2.1 s.2.2.2.2.2.2.2.2) (fun s => I s.1 s.2.1 s.2.2.1 s.2.2.2.1 s.2.2.2.2.1 s.2.2.2.2.2.1 s.2.2.2.2.2.2.1 s.2.2.2.2.2.2.2.1 s.2.2.2.2.2.2.2.2) (fun s => μ s.1 s.2.1 s.2.2.1 s.2.2.2.1 s.2.2.2.2.1 s.2.2.2.2.2.1 s.2.2.2.2.2.2.1 s.2.2.2.2.2.2.2.1 s.2.2.2.2.2.2.2.2) (fun n s hI hk => hs n s.1 s.2.1 s.2.2.1 s.2.2.2.1 s.2.2.2.2.1 s.2.2.2.2.2.1 s.2.2.2.2.2.2.1 s.2.2.2.2.2.2.2.1 s.2.2.2.2.2.2.2.2 hI (fun b1 b2 b3 b4 b5 b6 b7 b8 b9 h9 hm => hk (b1, b2, b3, b4, b5, b6, b7, b8, b9) h9 hm)) (a1, a2, a3, a4, a5, a6, a7, a8, a9) h
theorem lp10 {A1 A2 A3 A4 A5 A6 A7 A8 A9 A10 : Type} (W : Nat → A1 → A2 → A3 → A4 → A5 → A6 → A7 → A8 → A9 → A10 → Prop) (I : A1 → A2 → A3 → A4 → A5 → A6 → A7 → A8 → A9 → A10 → Prop) (μ : A1 → A2 → A3 → A4 → A5 → A6 → A7 → A8 → A9 → A10 → Nat) (hs : ∀ (n : Nat) (a1 : A1) (a2 : A2) (a3 : A3) (a4 : A4) (a5 : A5) (a6 : A6) (a7 : A7) (a8 : A8) (a9 : A9) (a10 : A10), I a1 a2 a3 a4 a5 a6 a7 a8 a9 a10 → (∀ (b1 : A1) (b2 : A2) (b3 : A3) (b4 : A4) (b5 : A5) (b6 : A6) (b7 : A7) (b8 : A8) (b9 : A9) (b10 : A10), I b1 b2 b3 b4 b5 b6 b7 b8 b9 b10 → μ b1 b2 b3 b4 b5 b6 b7 b8 b9 b10 < μ a1 a2 a3 a4 a5 a6 a7 a8 a9 a10 → W n b1 b2 b3 b4 b5 b6 b7 b8 b9 b10) → W (n + 1) a1 a2 a3 a4 a5 a6 a7 a8 a9 a10) (a1 : A1) (a2 : A2) (a3 : A3) (a4 : A4) (a5 : A5) (a6 : A6) (a7 : A7) (a8 : A8) (a9 : A9) (a10 : A10) (h : I a1 a2 a3 a4 a5 a6 a7 a8 a9 a10) : ∃ n, W n a1 a2 a3 a4 a5 a6 a7 a8 a9 a10 :=
  loop_m (σ := A1 × A2 × A3 × A4 × A5 × A6 × A7 × A8 × A9 × A10) (fun n s => W n s.1 s.2.1 s.2.2.1 s.2.2.2.1 s.2.2.2.2.1 s.2.2.2.2.2.1 s.2.2.2.2.2.2.1 s.2.2.2.2.2.2.2.1 s.2.2.2.2.2.2.2.2.1 s.2.2.2.2.2.2.2.2.2) (fun s => I s.1 s.2.1 s.2.2.1 s.2.2.2.1 s.2.2.2.2.1 s.2.2.2.2.2.1 s.2.2.2.2.2.2.1 s.2.2.2.2.2.2.2.1 s.2.2.2.2.2.2.2.2.1 s.2.2.2.2.2.2.2.2.2) (fun s => μ s.1 s.2.1 s.2.2.1 s.2.2.2.1 s.2.2.2.2.1 s.2.2.2.2.2.1 s.2.2.2.2.2.2.1 s.2.2.2.2.2.2.2.1 s.2.2.2.2.2.2.2.2.1 s.2.2.2.2.2.2.2.2.2) (fun n s hI hk => hs n s.1 s.2.1 s.2.2.1 s.2.2.2.1 s.2.2.2.2.1 s.2.2.2.2.2.1 s.2.2.2.2.2.2.1 s.2.2.2.2.2.2.2.1 s.2.2.2.2.2.2.2.2.1 s.2.2.2.2.2.2.2.2.2 hI (fun b1 b2 b3 b4 b5 b6 b7 b8 b9 b10 h9 hm => hk (b1, b2, b3, b4, b5, b6, b7, b8, b9, b10) h9 hm)) (a1, a2, a3, a4, a5, a6, a7, a8, a9, a10) h
theorem lp11 {A1 A2 A3 A4 A5 A6 A7 A8 A9 A10 A11 : Type} (W : Nat → A1 → A2 → A3 → A4 → A5 → A6 → A7 → A8 → A9 → A10 → A11 → Prop) (I : A1 → A2 → A3 → A4 → A5 → A6 → A7 → A8 → A9 → A10 → A11 → Prop) (μ : A1 → A2 → A3 → A4 → A5 → A6 → A7 → A8 → A9 → A10 → A11 → Nat) (hs : ∀ (n : Nat) (a1 : A1) (a2 : A2) (a3 : A3) (a4 : A4) (a5 : A5) (a6 : A6) (a7 : A7) (a8 : A8) (a9 : A9) (a10 : A10) (a11 : A11), I a1 a2 a3 a4 a5 a6 a7 a8 a9 a10 a11 → (∀ (b1 : A1) (b2 : A2) (b3 : A3) (b4 : A4) (b5 : A5) (b6 : A6) (b7 : A7) (b8 : A8) (b9 : A9) (b10 : A10) (b11 : A11), I b1 b2 b3 b4 b5 b6 b7 b8 b9 b10 b11 → μ b1 b2 b3 b4 b5 b6 b7 b8 b9 b10 b11 < μ a1 a2 a3 a4 a5 a6 a7 a8 a9 a10 a11 → W n b1 b2 b3 b4 b5 b6 b7 b8 b9 b10 b11) → W (n + 1) a1 a2 a3 a4 a5 a6 a7 a8 a9 a10 a11) (a1 : A1) (a2 : A2) (a3 : A3) (a4 : A4) (a5 : A5) (a6 : A6) (a7 : A7) (a8 : A8) (a9 : A9) (a10 : A10) (a11 : A11) (h : I a1 a2 a3 a4 a5 a6 a7 a8 a9 a10 a11) : ∃ n, W n a1 a2 a3 a4 a5 a6 a7 a8 a9 a10 a11 :=
  loop_m (σ := A1 × A2 × A3 × A4 × A5 × A6 × A7 × A8 × A9 × A10 × A11) (fun n s => W n s.1 s.2.1 s.2.2.1 s.2.2.2.1 s.2.2.2.2.1 s.2.2.2.2.2.1 s.2.2.2.2.2.2.1 s.2.2.2.2.2.2.2.1 s.2.2.2.2.2.2.2.2.1 s.2.2.2.2.2.2.2.2.2.1 s.2.2.2.2.2.2.2.2.2.2) (fun s => I s.1 s.2.1 s.2.2.1 s.2.2.2.1 s.2.2.2.2.1 s.2.2.2.2.2.1 s.2.2.2.2.2.2.1 s.2.2.2.2.2.2.2.1 s.2.2.2.2.2.2.2.2.1 s.2.2.2.2.2.2.2.2.2.1 s.2.2.2.2.2.2.2.2.2.2) (fun s => μ s.1 s.2.1 s.2.2.1 s.2.2.2.1 s.2.2.2.2.1 s.2.2.2.2.2.1 s.2.2.2.2.2.2.1 s.2.2.2.2.2.2.2.1 s.2.2.2.2.2.2.2.2.1 s.2.2.2.2.2.2.2.2.2.1 s.2.2.2.2.2.2.2.2.2.2) (fun n s hI hk => hs n s.1 s.2.1 s.2.2.1 s.2.2.2.1 s.2.2.2.2.1 s.2.2.2.2.2.1 s.2.2.2.2.2.2.1 s.2.2.2.2.2.2.2.1 s.2.2.2.2.2.2.2.2.1 s.2.2.2.2.2.2.2.2.2.1 s.2.2.2.2.2.2.2.2.2.2 hI (fun b1 b2 b3 b4 b5 b6 b7 b8 b9 b10 b11 h9 hm => hk (b1, b2, b3, b4, b5, b6, b7, b8, b9, b10, b11) h9 hm)) (a1, a2, a3, a4, a5, a6, a7, a8, a9, a10, a11) h
theorem lp12 {A1 A2 A3 A4 A5 A6 A7 A8 A9 A10 A11 A12 : Type} (W : Nat → A1 → A2 → A3 → A4 → A5 → A6 → A7 → A8 → A9 → A10 → A11 → A12 → Prop) (I : A1 → A2 → A3 → A4 → A5 → A6 → A7 → A8 → A9 → A10 → A11 → A12 → Prop) (μ : A1 → A2 → A3 → A4 → A5 → A6 → A7 → A8 → A9 → A10 → A11 → A12 → Nat) (hs : ∀ (n : Nat) (a1 : A1) (a2 : A2) (a3 : A3) (a4 : A4) (a5 : A5) (a6 : A6) (a7 : A7) (a8 : A8) (a9 : A9) (a10 : A10) (a11 : A11) (a12 : A12), I a1 a2 a3 a4 a5 a6 a7 a8 a9 a10 a11 a12 → (∀ (b1 : A1) (b2 : A2) (b3 : A3) (b4 : A4) (b5 : A5) (b6 : A6) (b7 : A7) (b8 : A8) (b9 : A9) (b10 : A10) (b11 : A11) (b12 : A12), I b1 b2 b3 b4 b5 b6 b7 b8 b9 b10 b11 b12 → μ b1 b2 b3 b4 b5 b6 b7 b8 b9 b10 b11 b12 < μ a1 a2 a3 a4 a5 a6 a7 a8 a9 a10 a11 a12 → W n b1 b2 b3 b4 b5 b6 b7 b8 b9 b10 b11 b12) → W (n + 1) a1 a2 a3 a4 a5 a6 a7 a8 a9 a10 a11 a12) (a1 : A1) (a2 : A2) (a3 : A3) (a4 : A4) (a5 : A5) (a6 : A6) (a7 : A7) (a8 : A8) (a9 : A9) (a10 : A10) (a11 : A11) (a12 : A12) (h : I a1 a2 a3 a4 a5 a6 a7 a8 a9 a10 a11 a12) : ∃ n, W n a1 a2 a3 a4 a5 a6 a7 a8 a9 a10 a11 a12 :=
  loop_m (σ := A1 × A2 × A3 × A4 × A5 × A6 × A7 × A8 × A9 × A10 × A11 × A12) (fun n s => W n s.1 s.2.1 s.2.2.1 s.2.2.2.1 s.2.2.2.2.1 s.2.2.2.2.2.1 s.2.2.2.2.2.2.1 s.2.2.2.2.2.2.2.1 s.2.2.2.2.2.2.2.2.1 s.2.2.2.2.2.2.2.2.2.1 s.2.2.2.2.2.2.2.2.2.2.1 s.2.2.2.2.2.2.2.2.2.2.2) (fun s => I s.1 s.2.1 s.2.2.1 s.2.2.2.1 s.2.2.2.2.1 s.2.2.2.2.2.1 s.2.2.2.2.2.2.1 s.2.2.2.2.2.2.2.1 s.2.2.2.2.2.2.2.2.1 s.2.2.2.2.2.2.2.2.2.1 s.2.2.2.2.2.2.2.2.2.2.1 s.2.2.2.2.2.2.2.2.2.2.2) (fun s => μ s.1 s.2.1 s.2.2.1 s.2.2.2.1 s.2.2.2.2.1 s.2.2.2.2.2.1 s.2.2.2.2.2.2.1 s.2.2.2.2.2.2.2.1 s.2.2.2.2.2.2.2.2.1 s.2.2.2.2.2.2.2.2.2.1 s.2.2.2.2.2.2.2.2.2.2.1 s.2.2.2.2.2.2.2.2.2.2.2) (fun n s hI hk => hs n s.1 s.2.1 s.2.2.1 s.2.2.2.1 s.2.2.2.2.1 s.2.2.2.2.2.1 s.2.2.2.2.2.2.1 s.2.2.2.2.2.2.2.1 s.2.2.2.2.2.2.2.2.1 s.2.2.2.2.2.2.2.2.2.1 s.2.2.2.2.2.2.2.2.2.2.1 s.2.2.2.2.2.2.2.2.2.2.2 hI (fun b1 b2 b3 b4 b5 b6 b7 b8 b9 b10 b11 b12 h9 hm => hk (b1, b2, b3, b4, b5, b6, b7, b8, b9, b10, b11, b12) h9 hm)) (a1, a2, a3, a4, a5, a6, a7, a8, a9, a10, a11, a12) h
theorem lp13 {A1 A2 A3 A4 A5 A6 A7 A8 A9 A10 A11 A12 A13 : Type} (W : Nat → A1 → A2 → A3 → A4 → A5 → A6 → A7 → A8 → A9 → A10 → A11 → A12 → A13 → Prop) (I : A1 → A2 → A3 → A4 → A5 → A6 → A7 → A8 → A9 → A10 → A11 → A12 → A13 → Prop) (μ : A1 → A2 → A3 → A4 → A5 → A6 → A7 → A8 → A9 → A10 → A11 → A12 → A13 → Nat) (hs : ∀ (n : Nat) (a1 : A1) (a2 : A2) (a3 : A3) (a4 : A4) (a5 : A5) (a6 : A6) (a7 : A7) (a8 : A8) (a9 : A9) (a10 : A10) (a11 : A11) (a12 : A12) (a13 : A13), I a1 a2 a3 a4 a5 a6 a7 a8 a9 a10 a11 a12 a13 → (∀ (b1 : A1) (b2 : A2) (b3 : A3) (b4 : A4) (b5 : A5) (b6 : A6) (b7 : A7) (b8 : A8) (b9 : A9) (b10 : A10) (b11 : A11) (b12 : A12) (b13 : A13), I b1 b2 b3 b4 b5 b6 b7 b8 b9 b10 b11 b12 b13 → μ b1 b2 b3 b4 b5 b6 b7 b8 b9 b10 b11 b12 b13 < μ a1 a2 a3 a4 a5 a6 a7 a8 a9 a10 a11 a12 a13 → W n b1 b2 b3 b4 b5 b6 b7 b8 b9 b10 b11 b12 b13) → W (n + 1) a1 a2 a3 a4 a5 a6 a7 a8 a9 a10 a11 a12 a13) (a1 : A1) (a2 : A2) (a3 : A3) (a4 : A4) (a5 : A5) (a6 : A6) (a7 : A7) (a8 : A8) (a9 : A9) (a10 : A10) (a11 : A11) (a12 : A12) (a13 : A13) (h : I a1 a2 a3 a4 a5 a6 a7 a8 a9 a10 a11 a12 a13) : ∃ n, W n a1 a2 a3 a4 a5 a6 a7 a8 a9 a10 a11 a12 a13 :=
  loop_m (σ := A1 × A2 × A3 × A4 × A5 × A6 × A7 × A8 × A9 × A10 × A11 × A12 × A13) (fun n s => W n s.1 s.2.1 s.2.2.1 s.2.2.2.1 s.2.2.2.2.1 s.2.2.2.2.2.1 s.2.2.2.2.2.2.1 s.2.2.2.2.2.2.2.1 s.2.2.2.2.2.2.2.2.1 s.2.2.2.2.2.2.2.2.2.1 s.2.2.2.2.2.2.2.2.2.2.1 s.2.2.2.2.2.2.2.2.2.2.2.1 s.2.2.2.2.2.2.2.2.2.2.2.2) (fun s => I s.1 s.2.1 s.2.2.1 s.2.2.2.1 s.2.2.2.2.1 s.2.2.2.2.2.1 s.2.2.2.2.2.2.1 s.2.2.2.2.2.2.2.1 s.2.2.2.2.2.2.2.2.1 s.2.2.2.2.2.2.2.2.2.1 s.2.2.2.2.2.2.2.2.2.2.1 s.2.2.2.2.2.2.2.2.2.2.2.1 s.2.2.2.2.2.2.2.2.2.2.2.2) (fun s => μ s.1 s.2.1 s.2.2.1 s.2.2.2.1 s.2.2.2.2.1 s.2.2.2.2.2.1 s.2.2.2.2.2.2.1 s.2.2.2.2.2.2.2.1 s.2.2.2.2.2.2.2.2.1 s.2.2.2.2.2.2.2.2.2.1 s.2.2.2.2.2.2.2.2.2.2.1 s.2.2.2.2.2.2.2.2.2.2.2.1 s.2.2.2.2.2.2.2.2.2.2.2.2) (fun n s hI hk => hs n s.1 s.2.1 s.2.2.1 s.2.2.2.1 s.2.2.2.2.1 s.2.2.2.2.2.1 s.2.2.2.2.2.2.1 s.2.2.2.2.2.2.2.1 s.2.2.2.2.2.2.2.2.1 s.2.2.2.2.2.2.2.2.2.1 s.2.2.2.2.2.2.2.2.2.2.1 s.2.2.2.2.2.2.2.2.2.2.2.1 s.2.2.2.2.2.2.2.2.2.2.2.2 hI (fun b1 b2 b3 b4 b5 b6 b7 b8 b9 b10 b11 b12 b13 h9 hm => hk (b1, b2, b3, b4, b5, b6, b7, b8, b9, b10, b11, b12, b13) h9 hm)) (a1, a2, a3, a4, a5, a6, a7, a8, a9, a10, a11, a12, a13) h
theorem lp14 {A1 A2 A3 A4 A5 A6 A7 A8 A9 A10 A11 A12 A13 A14 : Type} (W : Nat → A1 → A2 → A3 → A4 → A5 → A6 → A7 → A8 → A9 → A10 → A11 → A12 → A13 → A14 → Prop) (I : A1 → A2 → A3 → A4 → A5 → A6 → A7 → A8 → A9 → A10 → A11 → A12 → A13 → A14 → Prop) (μ : A1 → A2 → A3 → A4 → A5 → A6 → A7 → A8 → A9 → A10 → A11 → A12 → A13 → A14 → Nat) (hs : ∀ (n : Nat) (a1 : A1) (a2 : A2) (a3 : A3) (a4 : A4) (a5 : A5) (a6 : A6) (a7 : A7) (a8 : A8) (a9 : A9) (a10 : A10) (a11 : A11) (a12 : A12) (a13 : A13) (a14 : A14), I a1 a2 a3 a4 a5 a6 a7 a8 a9 a10 a11 a12 a13 a14 → (∀ (b1 : A1) (b2 : A2) (b3 : A3) (b4 : A4) (b5 : A5) (b6 : A6) (b7 : A7) (b8 : A8) (b9 : A9) (b10 : A10) (b11 : A11) (b12 : A12) (b13 : A13) (b14 : A14), I b1 b2 b3 b4 b5 b6 b7 b8 b9 b10 b11 b12 b13 b14 → μ b1 b2 b3 b4 b5 b6 b7 b8 b9 b10 b11 b12 b13 b14 < μ a1 a2 a3 a4 a5 a6 a7 a8 a9 a10 a11 a12 a13 a14 → W n b1 b2 b3 b4 b5 b6 b7 b8 b9 b10 b11 b12 b13 b14) → W (n + 1) a1 a2 a3 a4 a5 a6 a7 a8 a9 a10 a11 a12 a13 a14) (a1 : A1) (a2 : A2) (a3 : A3) (a4 : A4) (a5 : A5) (a6 : A6) (a7 : A7) (a8 : A8) (a9 : A9) (a10 : A10) (a11 : A11) (a12 : A12) (a13 : A13) (a14 : A14) (h : I a1 a2 a3 a4 a5 a6 a7 a8 a9 a10 a11 a12 a13 a14) : ∃ n, W n a1 a2 a3 a4 a5 a6 a7 a8 a9 a10 a11 a12 a13 a14 :=
  loop_m (σ := A1 × A2 × A3 × A4 × A5 × A6 × A7 × A8 × A9 × A10 × A11 × A12 × A13 × A14) (fun n s => W n s.1 s.2.1 s.2.2.1 s.2.2.2.1 s.2.2.2.2.1 s.2.2.2.2.2.1 s.2.2.2.2.2.2.1 s.2.2.2.2.2.2.2.1 s.2.2.2.2.2.2.2.2.1 s.2.2.2.2.2.2.2.2.2.1 s.2.2.2.2.2.2.2.2.2.2.1 s.2.2.2.2.2.2.2.2.2.2.2.1 s.2.2.2.2.2.2.2.2.2.2.2.2.1 s.2.2.2.2.2.2.2.2.2.2.2.2.2) (fun s => I s.1 s.2.1 s.2.2.1 s.2.2.2.1 s.2.2.2.2.1 s.2.2.2.2.2.1 s.2.2.2.2.2.2.1 s.2.2.2.2.2.2.2.1 s.2.2.2.2.2.2.2.2.1 s.2.2.2.2.2.2.2.2.2.1 s.2.2.2.2.2.2.2.2.2.2.1 s.2.2.2.2.2.2.2.2.2.2.2.1 s.2.2.2.2.2.2.2.2.2.2.2.2.1 s.2.2.2.2.2.2.2.2.2.2.2.2.2) (fun s => μ s.1 s.2.1 s.2.2.1 s.2.2.2.1 s.2.2.2.2.1 s.2.2.2.2.2.1 s.2.2.2.2.2.2.1 s.2.2.2.2.2.2.2.1 s.2.2.2.2.2.2.2.2.1 s.2.2.2.2.2.2.2.2.2.1 s.2.2.2.2.2.2.2.2.2.2.1 s.2.2.2.2.2.2.2.2.2.2.2.1 s.2.2.2.2.2.2.2.2.2.2.2.2.1 s.2.2.2.2.2.2.2.2.2.2.2.2.2) (fun n s hI hk => hs n s.1 s.2.1 s.2.2.1 s.2.2.2.1 s.2.2.2.2.1 s.2.2.2.2.2.1 s.2.2.2.2.2.2.1 s.2.2.2.2.2.2.2.1 s.2.2.2.2.2.2.2.2.1 s.2.2.2.2.2.2.2.2.2.1 s.2.2.2.2.2.2.2.2.2.2.1 s.2.2.2.2.2.2.2.2.2.2.2.1 s.2.2.2.2.2.2.2.2.2.2.2.2.1 s.2.2.2.2.2.2.2.2.2.2.2.2.2 hI (fun b1 b2 b3 b4 b5 b6 b7 b8 b9 b10 b11 b12 b13 b14 h9 hm => hk (b1, b2, b3, b4, b5, b6, b7, b8, b9, b10, b11, b12, b13, b14) h9 hm)) (a1, a2, a3, a4, a5, a6, a7, a8, a9, a10, a11, a12, a13, a14) h
theorem lp15 {A1 A2 A3 A4 A5 A6 A7 A8 A9 A10 A11 A12 A13 A14 A15 : Type} (W : Nat → A1 → A2 → A3 → A4 → A5 → A6 → A7 → A8 → A9 → A10 → A11 → A12 → A13 → A14 → A15 → Prop) (I : A1 → A2 → A3 → A4 → A5 → A6 → A7 → A8 → A9 → A10 → A11 → A12 → A13 → A14 → A15 → Prop) (μ : A1 → A2 → A3 → A4 → A5 → A6 → A7 → A8 → A9 → A10 → A11 → A12 → A13 → A14 → A15 → Nat) (hs : ∀ (n : Nat) (a1 : A1) (a2 : A2) (a3 : A3) (a4 : A4) (a5 : A5) (a6 : A6) (a7 : A7) (a8 : A8) (a9 : A9) (a10 : A10) (a11 : A11) (a12 : A12) (a13 : A13) (a14 : A14) (a15 : A15), I a1 a2 a3 a4 a5 a6 a7 a8 a9 a10 a11 a12 a13 a14 a15 → (∀ (b1 : A1) (b2 : A2) (b3 : A3) (b4 : A4) (b5 : A5) (b6 : A6) (b7 : A7) (b8 : A8) (b9 : A9) (b10 : A10) (b11 : A11) (b12 : A12) (b13 : A13) (b14 : A14) (b15 : A15), I b1 b2 b3 b4 b5 b6 b7 b8 b9 b10 b11 b12 b13 b14 b15 → μ b1 b2 b3 b4 b5 b6 b7 b8 b9 b10 b11 b12 b13 b14 b15 < μ a1 a2 a3 a4 a5 a6 a7 a8 a9 a10 a11 a12 a13 a14 a15 → W n b1 b2 b3 b4 b5 b6 b7 b8 b9 b10 b11 b12 b13 b14 b15) → W (n + 1) a1 a2 a3 a4 a5 a6 a7 a8 a9 a10 a11 a12 a13 a14 a15) (a1 : A1) (a2 : A2) (a3 : A3) (a4 : A4) (a5 : A5) (a6 : A6) (a7 : A7) (a8 : A8) (a9 : A9) (a10 : A10) (a11 : A11) (a12 : A12) (a13 : A13) (a14 : A14) (a15 : A15) (h : I a1 a2 a3 a4 a5 a6 a7 a8 a9 a10 a11 a12 a13 a14 a15) : ∃ n, W n a1 a2 a3 a4 a5 a6 a7 a8 a9 a10 a11 a12 a13 a14 a15 :=
  loop_m (σ := A1 × A2 × A3 × A4 × A5 × A6 × A7 × A8 × A9 × A10 × A11 × A12 × A13 × A14 × A15) (fun n s => W n s.1 s.2.1 s.2.2.1 s.2.2.2.1 s.2.2.2.2.1 s.2.2.2.2.2.1 s.2.2.2.2.2.2.1 s.2.2.2.2.2.2.2.1 s.2.2.2.2.2.2.2.2.1 s.2.2.2.2.2.2.2.2.2.1 s.2.2.2.2.2.2.2.2.2.2.1 s.2.2.2.2.2.2.2.2.2.2.2.1 s.2.2.2.2.2.2.2.2.2.2.2.2.1 s.2.2.2.2.2.2.2.2.2.2.2.2.2.1 s.2.2.2.2.2.2.2.2.2.2.2.2.2.2) (fun s => I s.1 s.2.1 s.2.2.1 s.2.2.2.1 s.2.2.2.2.1 s.2.2.2.2.2.1 s.2.2.2.2.2.2.1 s.2.2.2.2.2.2.2.1 s.2.2.2.2.2.2.2.2.1 s.2.2.2.2.2.2.2.2.2.1 s.2.2.2.2.2.2.2.2.2.2.1 s.2.2.2.2.2.2.2.2.2.2.2.1 s.2.2.2.2.2.2.2.2.2.2.2.2.1 s.2.2.2.2.2.2.2.2.2.2.2.2.2.1 s.2.2.2.2.2.2.2.2.2.2.2.2.2.2) (fun s => μ s.1 s.2.1 s.2.2.1 s.2.2.2.1 s.2.2.2.2.1 s.2.2.2.2.2.1 s.2.2.2.2.2.2.1 s.2.2.2.2.2.2.2.1 s.2.2.2.2.2.2.2.2.1 s.2.2.2.2.2.2.2.2.2.1 s.2.2.2.2.2.2.2.2.2.2.1 s.2.2.2.2.2.2.2.2.2.2.2.1 s.2.2.2.2.2.2.2.2.2.2.2.2.1 s.2.2.2.2.2.2.2.2.2.2.2.2.2.1 s.2.2.2.2.2.2.2.2.2.2.2.2.2.2) (fun n s hI hk => hs n s.1 s.2.1 s.2.2.1 s.2.2.2.1 s.2.2.2.2.1 s.2.2.2.2.2.1 s.2.2.2.2.2.2.1 s.2.2.2.2.2.2.2.1 s.2.2.2.2.2.2.2.2.1 s.2.2.2.2.2.2.2.2.2.1 s.2.2.2.2.2.2.2.2.2.2.1 s.2.2.2.2.2.2.2.2.2.2.2.1 s.2.2.2.2.2.2.2.2.2.2.2.2.1 s.2.2.2.2.2.2.2.2.2.2.2.2.2.1 s.2.2.2.2.2.2.2.2.2.2.2.2.2.2 hI (fun b1 b2 b3 b4 b5 b6 b7 b8 b9 b10 b11 b12 b13 b14 b15 h9 hm => hk (b1, b2, b3, b4, b5, b6, b7, b8, b9, b10, b11, b12, b13, b14, b15) h9 hm)) (a1, a2, a3, a4, a5, a6, a7, a8, a9, a10, a11, a12, a13, a14, a15) h
theorem lp16 {A1 A2 A3 A4 A5 A6 A7 A8 A9 A10 A11 A12 A13 A14 A15 A16 : Type} (W : Nat → A1 → A2 → A3 → A4 → A5 → A6 → A7 → A8 → A9 → A10 → A11 → A12 → A13 → A14 → A15 → A16 → Prop) (I : A1 → A2 → A3 → A4 → A5 → A6 → A7 → A8 → A9 → A10 → A11 → A12 → A13 → A14 → A15 → A16 → Prop) (μ : A1 → A2 → A3 → A4 → A5 → A6 → A7 → A8 → A9 → A10 → A11 → A12 → A13 → A14 → A15 → A16 → Nat) (hs : ∀ (n : Nat) (a1 : A1) (a2 : A2) (a3 : A3) (a4 : A4) (a5 : A5) (a6 : A6) (a7 : A7) (a8 : A8) (a9 : A9) (a10 : A10) (a11 : A11) (a12 : A12) (a13 : A13) (a14 : A14) (a15 : A15) (a16 : A16), I a1 a2 a3 a4 a5 a6 a7 a8 a9 a10 a11 a12 a13 a14 a15 a16 → (∀ (b1 : A1) (b2 : A2) (b3 : A3) (b4 : A4) (b5 : A5) (b6 : A6) (b7 : A7) (b8 : A8) (b9 : A9) (b10 : A10) (b11 : A11) (b12 : A12) (b13 : A13) (b14 : A14) (b15 : A15) (b16 : A16), I b1 b2 b3 b4 b5 b6 b7 b8 b9 b10 b11 b12 b13 b14 b15 b16 → μ b1 b2 b3 b4 b5 b6 b7 b8 b9 b10 b11 b12 b13 b14 b15 b16 < μ a1 a2 a3 a4 a5 a6 a7 a8 a9 a10 a11 a12 a13 a14 a15 a16 → W n b1 b2 b3 b4 b5 b6 b7 b8 b9 b10 b11 b12 b13 b14 b15 b16) → W (n + 1) a1 a2 a3 a4 a5 a6 a7 a8 a9 a10 a11 a12 a13 a14 a15 a16) (a1 : A1) (a2 : A2) (a3 : A3) (a4 : A4) (a5 : A5) (a6 : A6) (a7 : A7) (a8 : A8) (a9 : A9) (a10 : A10) (a11 : A11) (a12 : A12) (a13 : A13) (a14 : A14) (a15 : A15) (a16 : A16) (h : I a1 a2 a3 a4 a5 a6 a7 a8 a9 a10 a11 a12 a13 a14 a15 a16) : ∃ n, W n a1 a2 a3 a4 a5 a6 a7 a8 a9 a10 a11 a12 a13 a14 a15 a16 :=
  loop_m (σ := A1 × A2 × A3 × A4 × A5 × A6 × A7 × A8 × A9 × A10 × A11 × A12 × A13 × A14 × A15 × A16) (fun n s => W n s.1 s.2.1 s.2.2.1 s.2.2.2.1 s.2.2.2.2.1 s.2.2.2.2.2.1 s.2.2.2.2.2.2.1 s.2.2.2.2.2.2.2.1 s.2.2.2.2.2.2.2.2.1 s.2.2.2.2.2.2.2.2.2.1 s.2.2.2.2.2.2.2.2.2.2.1 s.2.2.2.2.2.2.2.2.2.2.2.1 s.2.2.2.2.2.2.2.2.2.2.2.2.1 s.2.2.2.2.2.2.2.2.2.2.2.2.2.1 s.2.2.2.2.2.2.2.2.2.2.2.2.2.2.1 s.2.2.2.2.2.2.2.2.2.2.2.2.2.2.2) (fun s => I s.1 s.2.1 s.2.2.1 s.2.2.2.1 s.2.2.2.2.1 s.2.2.2.2.2.1 s.2.2.2.2.2.2.1 s.2.2.2.2.2.2.2.1 s.2.2.2.2.2.2.2.2.1 s.2.2.2.2.2.2.2.2.2.1 s.2.2.2.2.2.2.2.2.2.2.1 s.2.2.2.2.2.2.2.2.2.2.2.1 s.2.2.2.2.2.2.2.2.2.2.2.2.1 s.2.2.2.2.2.2.2.2.2.2.2.2.2.1 s.2.2.2.2.2.2.2.2.2.2.2.2.2.2.1 s.2.2.2.2.2.2.2.2.2.2.2.2.2.2.2) (fun s => μ s.1 s.2.1 s.2.2.1 s.2.2.2.1 s.2.2.2.2.1 s.2.2.2.2.2.1 s.2.2.2.2.2.2.1 s.2.2.2.2.2.2.2.1 s.2.2.2.2.2.2.2.2.1 s.2.2.2.2.2.2.2.2.2.1 s.2.2.2.2.2.2.2.2.2.2.1 s.2.2.2.2.2.2.2.2.2.2.2.1 s.2.2.2.2.2.2.2.2.2.2.2.2.1 s.2.2.2.2.2.2.2.2.2.2.2.2.2.1 s.2.2.2.2.2.2.2.2.2.2.2.2.2.2.1 s.2.2.2.2.2.2.2.2.2.2.2.2.2.2.2) (fun n s hI hk => hs n s.1 s.2.1 s.2.2.1 s.2.2.2.1 s.2.2.2.2.1 s.2.2.2.2.2.1 s.2.2.2.2.2.2.1 s.2.2.2.2.2.2.2.1 s.2.2.2.2.2.2.2.2.1 s.2.2.2.2.2.2.2.2.2.1 s.2.2.2.2.2.2.2.2.2.2.1 s.2.2.2.2.2.2.2.2.2.2.2.1 s.2.2.2.2.2.2.2.2.2.2.2.2.1 s.2.2.2.2.2.2.2.2.2.2.2.2.2.1 s.2.2.2.2.2.2.2.2.2.2.2.2.2.2.1 s.2.2.2.2.2.2.2.2.2.2.2.2.2.2.2 hI (fun b1 b2 b3 b4 b5 b6 b7 b8 b9 b10 b11 b12 b13 b14 b15 b16 h9 hm => hk (b1, b2, b3, b4, b5, b6, b7, b8, b9, b10, b11, b12, b13, b14, b15, b16) h9 hm)) (a1, a2, a3, a4, a5, a6, a7, a8, a9, a10, a11, a12, a13, a14, a15, a16) h
theorem pk_least (P : Nat → Prop) (h : ∃ k, P k) : ∃ k, P k ∧ ∀ j, j < k → ¬ P j := by
  obtain ⟨k, hk⟩ := h
  induction k using Nat.strongRecOn with
  | ind k ih =>
    by_cases e : ∃ j, j < k ∧ P j
    · obtain ⟨j, hj, pj⟩ := e
      exact ih j hj pj
    · exact ⟨k, hk, fun j hj pj => e ⟨j, hj, pj⟩⟩
theorem rp1 {ρ A1 : Type} (W : Nat → (ρ → Prop) → A1 → Prop) (ok : A1 → Prop) (μ : A1 → Nat) (val : A1 → ρ)
    (hs : ∀ (d : Nat) (post : ρ → Prop) (a1 : A1), ok a1 → post (val a1) → (∀ (post' : ρ → Prop) (b1 : A1), ok b1 → μ b1 < μ a1 → post' (val b1) → W d post' b1) → W (d + 1) post a1) :
    ∀ (d : Nat) (post : ρ → Prop) (a1 : A1), ok a1 → μ a1 < d → post (val a1) → W d post a1 := by
  intro d
  induction d with
  | zero => intro post a1 _ h; omega
  | succ d ih =>
    intro post a1 ho hm hp
    exact hs d post a1 ho hp (fun post' b1 ho' hm' hp' => ih post' b1 ho' (by omega) hp')
theorem rp2 {ρ A1 A2 : Type} (W : Nat → (ρ → Prop) → A1 → A2 → Prop) (ok : A1 → A2 → Prop) (μ : A1 → A2 → Nat) (val : A1 → A2 → ρ)
    (hs : ∀ (d : Nat) (post : ρ → Prop) (a1 : A1) (a2 : A2), ok a1 a2 → post (val a1 a2) → (∀ (post' : ρ → Prop) (b1 : A1) (b2 : A2), ok b1 b2 → μ b1 b2 < μ a1 a2 → post' (val b1 b2) → W d post' b1 b2) → W (d + 1) post a1 a2) :
    ∀ (d : Nat) (post : ρ → Prop) (a1 : A1) (a2 : A2), ok a1 a2 → μ a1 a2 < d → post (val a1 a2) → W d post a1 a2 := by
  intro d
  induction d with
  | zero => intro post a1 a2 _ h; omega
  | succ d ih =>
    intro post a1 a2 ho hm hp
    exact hs d post a1 a2 ho hp (fun post' b1 b2 ho' hm' hp' => ih post' b1 b2 ho' (by omega) hp')
theorem rp3 {ρ A1 A2 A3 : Type} (W : Nat → (ρ → Prop) → A1 → A2 → A3 → Prop) (ok : A1 → A2 → A3 → Prop) (μ : A1 → A2 → A3 → Nat) (val : A1 → A2 → A3 → ρ)
    (hs : ∀ (d : Nat) (post : ρ → Prop) (a1 : A1) (a2 : A2) (a3 : A3), ok a1 a2 a3 → post (val a1 a2 a3) → (∀ (post' : ρ → Prop) (b1 : A1) (b2 : A2) (b3 : A3), ok b1 b2 b3 → μ b1 b2 b3 < μ a1 a2 a3 → post' (val b1 b2 b3) → W d post' b1 b2 b3) → W (d + 1) post a1 a2 a3) :
    ∀ (d : Nat) (post : ρ → Prop) (a1 : A1) (a2 : A2) (a3 : A3), ok a1 a2 a3 → μ a1 a2 a3 < d → post (val a1 a2 a3) → W d post a1 a2 a3 := by
  intro d
  induction d with
  | zero => intro post a1 a2 a3 _ h; omega
  | succ d ih =>
    intro post a1 a2 a3 ho hm hp
    exact hs d post a1 a2 a3 ho hp (fun post' b1 b2 b3 ho' hm' hp' => ih post' b1 b2 b3 ho' (by omega) hp')
theorem rp4 {ρ A1 A2 A3 A4 : Type} (W : Nat → (ρ → Prop) → A1 → A2 → A3 → A4 → Prop) (ok : A1 → A2 → A3 → A4 → Prop) (μ : A1 → A2 → A3 → A4 → Nat) (val : A1 → A2 → A3 → A4 → ρ)
    (hs : ∀ (d : Nat) (post : ρ → Prop) (a1 : A1) (a2 : A2) (a3 : A3) (a4 : A4), ok a1 a2 a3 a4 → post (val a1 a2 a3 a4) → (∀ (post' : ρ → Prop) (b1 : A1) (b2 : A2) (b3 : A3) (b4 : A4), ok b1 b2 b3 b4 → μ b1 b2 b3 b4 < μ a1 a2 a3 a4 → post' (val b1 b2 b3 b4) → W d post' b1 b2 b3 b4) → W (d + 1) post a1 a2 a3 a4) :
    ∀ (d : Nat) (post : ρ → Prop) (a1 : A1) (a2 : A2) (a3 : A3) (a4 : A4), ok a1 a2 a3 a4 → μ a1 a2 a3 a4 < d → post (val a1 a2 a3 a4) → W d post a1 a2 a3 a4 := by
  intro d
  induction d with
  | zero => intro post a1 a2 a3 a4 _ h; omega
  | succ d ih =>
    intro post a1 a2 a3 a4 ho hm hp
    exact hs d post a1 a2 a3 a4 ho hp (fun post' b1 b2 b3 b4 ho' hm' hp' => ih post' b1 b2 b3 b4 ho' (by omega) hp')
theorem rp5 {ρ A1 A2 A3 A4 A5 : Type} (W : Nat → (ρ → Prop) → A1 → A2 → A3 → A4 → A5 → Prop) (ok : A1 → A2 → A3 → A4 → A5 → Prop) (μ : A1 → A2 → A3 → A4 → A5 → Nat) (val : A1 → A2 → A3 → A4 → A5 → ρ)
    (hs : ∀ (d : Nat) (post : ρ → Prop) (a1 : A1) (a2 : A2) (a3 : A3) (a4 : A4) (a5 : A5), ok a1 a2 a3 a4 a5 → post (val a1 a2 a3 a4 a5) → (∀ (post' : ρ → Prop) (b1 : A1) (b2 : A2) (b3 : A3) (b4 : A4) (b5 : A5), ok b1 b2 b3 b4 b5 → μ b1 b2 b3 b4 b5 < μ a1 a2 a3 a4 a5 → post' (val b1 b2 b3 b4 b5) → W d post' b1 b2 b3 b4 b5) → W (d + 1) post a1 a2 a3 a4 a5) :
    ∀ (d : Nat) (post : ρ → Prop) (a1 : A1) (a2 : A2) (a3 : A3) (a4 : A4) (a5 : A5), ok a1 a2 a3 a4 a5 → μ a1 a2 a3 a4 a5 < d → post (val a1 a2 a3 a4 a5) → W d post a1 a2 a3 a4 a5 := by
  intro d
  induction d with
  | zero => intro post a1 a2 a3 a4 a5 _ h; omega
  | succ d ih =>
    intro post a1 a2 a3 a4 a5 ho hm hp
    exact hs d post a1 a2 a3 a4 a5 ho hp (fun post' b1 b2 b3 b4 b5 ho' hm' hp' => ih post' b1 b2 b3 b4 b5 ho' (by omega) hp')
theorem rp6 {ρ A1 A2 A3 A4 A5 A6 : Type} (W : Nat → (ρ → Prop) → A1 → A2 → A3 → A4 → A5 → A6 → Prop) (ok : A1 → A2 → A3 → A4 → A5 → A6 → Prop) (μ : A1 → A2 → A3 → A4 → A5 → A6 → Nat) (val : A1 → A2 → A3 → A4 → A5 → A6 → ρ)
    (hs : ∀ (d : Nat) (post : ρ → Prop) (a1 : A1) (a2 : A2) (a3 : A3) (a4 : A4) (a5 : A5) (a6 : A6), ok a1 a2 a3 a4 a5 a6 → post (val a1 a2 a3 a4 a5 a6) → (∀ (post' : ρ → Prop) (b1 : A1) (b2 : A2) (b3 : A3) (b4 : A4) (b5 : A5) (b6 : A6), ok b1 b2 b3 b4 b5 b6 → μ b1 b2 b3 b4 b5 b6 < μ a1 a2 a3 a4 a5 a6 → post' (val b1 b2 b3 b4 b5 b6) → W d post' b1 b2 b3 b4 b5 b6) → W (d + 1) post a1 a2 a3 a4 a5 a6) :
    ∀ (d : Nat) (post : ρ → Prop) (a1 : A1) (a2 : A2) (a3 : A3) (a4 : A4) (a5 : A5) (a6 : A6), ok a1 a2 a3 a4 a5 a6 → μ a1 a2 a3 a4 a5 a6 < d → post (val a1 a2 a3 a4 a5 a6) → W d post a1 a2 a3 a4 a5 a6 := by
  intro d
  induction d with
  | zero => intro post a1 a2 a3 a4 a5 a6 _ h; omega
  | succ d ih =>
    intro post a1 a2 a3 a4 a5 a6 ho hm hp
    exact hs d post a1 a2 a3 a4 a5 a6 ho hp (fun post' b1 b2 b3 b4 b5 b6 ho' hm' hp' => ih post' b1 b2 b3 b4 b5 b6 ho' (by omega) hp')
theorem rec_p {σ ρ : Type} (W : Nat → (ρ → Prop) → σ → Prop) (ok : σ → Prop) (μ : σ → Nat) (val : σ → ρ)
    (hs : ∀ d s post, ok s → post (val s) → (∀ s' post', ok s' → μ s' < μ s → post' (val s') → W d post' s') → W (d + 1) post s) :
    ∀ d s post, ok s → μ s < d → post (val s) → W d post s := by
  intro d
  induction d with
  | zero => intro s post _ h; omega
  | succ d ih =>
    intro s post ho hm hp
    exact hs d s post ho hp (fun s' post' ho' hm' hp' => ih s' post' ho' (by omega) hp')
theorem rec_q {σ ρ : Type} (W : Nat → (ρ → Prop) → σ → Prop) (ok : σ → Prop) (μ : σ → Nat) (Q : σ → ρ → Prop)
    (hs : ∀ d s post, ok s → (∀ r, Q s r → post r) → (∀ s' post', ok s' → μ s' < μ s → (∀ r, Q s' r → post' r) → W d post' s') → W (d + 1) post s) :
    ∀ d s post, ok s → μ s < d → (∀ r, Q s r → post r) → W d post s := by
  intro d
  induction d with
  | zero => intro s post _ h; omega
  | succ d ih =>
    intro s post ho hm hp
    exact hs d s post ho hp (fun s' post' ho' hm' hp' => ih s' post' ho' (by omega) hp')
def bx_sum (f : Nat → Int32) : Nat → Int32
  | 0 => 0
  | n + 1 => bx_sum f n + f n
theorem ek_u {A : Prop} {B : Nat → Prop} {k N : Nat} (hk : k < N) (h : B k) : (some k = none → A) ∧ (∀ y : Nat, some k = some y → (y < N ∧ B y)) :=
  ⟨fun z => absurd z (Option.some_ne_none k), fun _ e => (by cases e; exact ⟨hk, h⟩)⟩
theorem ek_nu {A : Prop} {B : Nat → Prop} (h : A) : ((none : Option Nat) = none → A) ∧ (∀ y : Nat, (none : Option Nat) = some y → B y) :=
  ⟨fun _ => h, fun _ e => (by cases e)⟩
theorem ek_if {c d A B : Prop} (e : c ↔ d) (f : d → A) (g : ¬ d → B) : (c → A) ∧ (¬ c → B) :=
  ⟨fun z => f (e.mp z), fun z => g (fun y => z (e.mpr y))⟩
theorem ek_v {α : Sort _} {P : α → Prop} {a b : α} (e : a = b) (h : P b) : P a := e ▸ h
theorem co_some {x : Option Nat} {A : Prop} {B : Nat → Prop} (i : Nat) (h : B i) (hx : x = some i := by rfl) : (x = none → A) ∧ (∀ y : Nat, x = some y → B y) := by
  subst hx
  exact ⟨fun e => (nomatch e), fun y e => Option.some.inj e ▸ h⟩
theorem co_none {x : Option Nat} {A : Prop} {B : Nat → Prop} (h : A) (hx : x = none := by rfl) : (x = none → A) ∧ (∀ y : Nat, x = some y → B y) := by
  subst hx
  exact ⟨fun _ => h, fun y e => (nomatch e)⟩
theorem co_any {x : Option Nat} {A : Prop} {B : Nat → Prop} (hn : x = none → A) (hs : ∀ i : Nat, x = some i → B i) : (x = none → A) ∧ (∀ y : Nat, x = some y → B y) := ⟨hn, hs⟩
theorem co_2 {P : Nat → Prop} (h0 : P 0) (h1 : P 1) {i : Nat} (hi : i < 2) : P i :=
  match i, hi with
  | 0, _ => h0
  | 1, _ => h1
theorem co_3 {P : Nat → Prop} (h0 : P 0) (h1 : P 1) (h2 : P 2) {i : Nat} (hi : i < 3) : P i :=
  match i, hi with
  | 0, _ => h0
  | 1, _ => h1
  | 2, _ => h2
theorem co_4 {P : Nat → Prop} (h0 : P 0) (h1 : P 1) (h2 : P 2) (h3 : P 3) {i : Nat} (hi : i < 4) : P i :=
  match i, hi with
  | 0, _ => h0
  | 1, _ => h1
  | 2, _ => h2
  | 3, _ => h3
theorem co_dec {N : Nat} {P : Nat → Prop} [DecidablePred P] (h : (List.range N).all (fun i => decide (P i)) = true) {i : Nat} (hi : i < N) : P i := by
  have := List.all_eq_true.mp h i (List.mem_range.mpr hi)
  exact of_decide_eq_true this
theorem co_tab {α : Type} {l : List α} {d : α} {P : α → Prop} (h : ∀ a, a ∈ l → P a) {i : Nat} (hi : i < l.length) : P (l.getD i d) := by
  rw [List.getD_eq_getElem?_getD, List.getElem?_eq_getElem hi]
  exact h _ (List.getElem_mem hi)
theorem pk_mu {x : Int32} {L : Nat} (h0 : ¬ x < 0) (h : ¬ nI L ≤ x) (hL : L < 2 ^ 31) : ∃ j : Nat, j < L ∧ x = nI j ∧ x + 1 = nI (j + 1) ∧ x.toNatClampNeg = j ∧ L - (x + 1).toNatClampNeg < L - x.toNatClampNeg := by
  obtain ⟨j, hj, rfl⟩ := nI_of h0
  have hl : j < L := Nat.not_le.mp fun q => h (nI_le q hj)
  refine ⟨j, hl, rfl, nI_1 j, nI_clamp hj, ?_⟩
  rw [nI_1, nI_clamp (by omega), nI_clamp hj]
  omega
theorem op_s {α : Type} {r : Option α} {A : Prop} {B : α → Prop} {y : α} (h : r = some y) (b : B y) : (r = none → A) ∧ ∀ z, r = some z → B z :=
  ⟨fun e => (by rw [h] at e; cases e), fun z e => (by rw [h] at e; cases e; exact b)⟩
def l_holds {α : Type} (a : Nat → Option Nat) (LP : List Nat) (p : Nat → α) (c : Nat) (b : Nat → α) : Prop :=
  ∀ j, j < c → ∃ y, a j = some y ∧ y ∈ LP ∧ p y = b j
theorem l_holds_0 {α : Type} {a : Nat → Option Nat} {LP : List Nat} {p b : Nat → α} : l_holds a LP p 0 b := fun j h => absurd h (Nat.not_lt_zero j)
theorem l_in_new (LP : List Nat) (q : Nat) : q ∈ LP ++ [q] := List.mem_append.mpr (Or.inr (List.mem_singleton.mpr rfl))
def l_sum (b : Nat → Int32) : Nat → Int32
  | 0 => 0
  | k + 1 => l_sum b k + b k
theorem sb_shr0 (x : Int32) : x >>> ((0 : Int32) &&& 31) = x := by
  rw [show ((0 : Int32) &&& 31) = 0 by decide]
  simp
theorem sb_shl0 (x : Int32) : x <<< ((0 : Int32) &&& 31) = x := by
  rw [show ((0 : Int32) &&& 31) = 0 by decide]
  simp
theorem sb_cl0 : (0 : Int32).toNatClampNeg = 0 := by decide
theorem sb_m1 {p : Nat} (h : 0 < p) : nI p + (-1) = nI (p - 1) := by
  obtain ⟨q, rfl⟩ : ∃ q, p = q + 1 := ⟨p - 1, by omega⟩
  exact pk_m1 q
def sb_b (c : Nat) : Int32 := (nI c).toInt8.toInt32
theorem sb_byte : ∀ c, c < 256 → sb_b c &&& 255 = nI c ∧ ((nI c).toUInt32 % 65536).toInt32 = nI c ∧ nI c ≤ 255 := by decide +kernel
def sb_Fit (a : Nat → Int32) : Prop := ∀ j, fits .byte (.int (a j)) = true
def sb_Lat (t : Nat → Nat) (n : Nat) (a : Nat → Int32) : Prop := ∀ j, j < n → t j < 256 ∧ a j = sb_b (t j)
theorem sb_fitB (c : Nat) : fits .byte (.int (sb_b c)) = true := pk_fb _
theorem sb_fit0 : sb_Fit (fun _ => 0) := fun _ => by
  show fits .byte (.int 0) = true
  decide
theorem sb_fitU {a : Nat → Int32} {k : Nat} {x : Int32} (h : sb_Fit a) (hx : fits .byte (.int x) = true) : sb_Fit (upd a k x) := by
  intro j
  by_cases e : j = k
  · subst e
    rw [pk_us]
    exact hx
  · rw [pk_un e]
    exact h j
def sb_cat (t : Nat → Nat) (n : Nat) (s : Nat → Nat) : Nat → Nat := fun j => if j < n then t j else s (j - n)
theorem sb_cat_lo {t s : Nat → Nat} {n j : Nat} (h : j < n) : sb_cat t n s j = t j := if_pos h
theorem sb_cat_hi {t s : Nat → Nat} {n j : Nat} : sb_cat t n s (n + j) = s j := by
  show (if n + j < n then t (n + j) else s (n + j - n)) = s j
  rw [if_neg (by omega), Nat.add_sub_cancel_left]
theorem sb_latPut {t s : Nat → Nat} {n w : Nat} {a a' : Nat → Int32} (h : sb_Lat t n a) (hk : ∀ j, j < n → a' j = a j) (hs : ∀ i, i < w → s i < 256 ∧ a' (n + i) = sb_b (s i)) : sb_Lat (sb_cat t n s) (n + w) a' := by
  intro j hj
  by_cases e : j < n
  · rw [sb_cat_lo e, hk j e]
    exact h j e
  · obtain ⟨i, rfl⟩ : ∃ i, j = n + i := ⟨j - n, by omega⟩
    rw [sb_cat_hi]
    exact hs i (by omega)
theorem sb_latKeep {t : Nat → Nat} {n : Nat} {a a' : Nat → Int32} (h : sb_Lat t n a) (hk : ∀ j, j < n → a' j = a j) : sb_Lat t n a' := fun j hj => by
  rw [hk j hj]
  exact h j hj
def sb_cap (q m : Nat) : Nat := if q ≤ m then m else if 2 * m + 2 < q then q else 2 * m + 2
def sb_Room (q m mc ms : Nat) : Prop := q ≤ m ∨ (1 ≤ mc ∧ sb_cap q m ≤ ms ∧ sb_cap q m ≤ 65536)
theorem sb_cap_ge (q m : Nat) : q ≤ sb_cap q m := by
  unfold sb_cap
  split
  · omega
  · split <;> omega
theorem sb_cap_gem (q m : Nat) : m ≤ sb_cap q m := by
  unfold sb_cap
  split
  · omega
  · split <;> omega
theorem sb_cap_le {q m mc ms : Nat} (hm : m ≤ 65536) (hr : sb_Room q m mc ms) : sb_cap q m ≤ 65536 := by
  rcases hr with h | h
  · rw [sb_cap, if_pos h]
    exact hm
  · exact h.2.2
theorem sb_at {P : Int32 → Prop} {x y : Int32} (e : x = y) (h : P y) : P x := e ▸ h
def sb_dg (w : Nat) : Nat := if w < 10 then 1 else if w < 100 then 2 else if w < 1000 then 3 else if w < 10000 then 4 else if w < 100000 then 5 else if w < 1000000 then 6 else if w < 10000000 then 7 else if w < 100000000 then 8 else if w < 1000000000 then 9 else 10
def sb_dec (v : Nat) : Nat → Nat := fun i => 48 + v / 10 ^ (sb_dg v - 1 - i) % 10
theorem sb_dg_in (w : Nat) : 1 ≤ sb_dg w ∧ sb_dg w ≤ 10 := by
  unfold sb_dg
  constructor <;> (repeat' split) <;> omega
theorem sb_dg100 {w : Nat} (h : 100 ≤ w) (hw : w < 2 ^ 31) : sb_dg w = sb_dg (w / 100) + 2 := by
  rw [sb_dg, sb_dg, if_neg (show ¬ w < 10 by omega), if_neg (show ¬ w < 100 by omega)]
  by_cases h3 : w < 1000
  · rw [if_pos h3, if_pos (show w / 100 < 10 by omega)]
  rw [if_neg h3, if_neg (show ¬ w / 100 < 10 by omega)]
  by_cases h4 : w < 10000
  · rw [if_pos h4, if_pos (show w / 100 < 100 by omega)]
  rw [if_neg h4, if_neg (show ¬ w / 100 < 100 by omega)]
  by_cases h5 : w < 100000
  · rw [if_pos h5, if_pos (show w / 100 < 1000 by omega)]
  rw [if_neg h5, if_neg (show ¬ w / 100 < 1000 by omega)]
  by_cases h6 : w < 1000000
  · rw [if_pos h6, if_pos (show w / 100 < 10000 by omega)]
  rw [if_neg h6, if_neg (show ¬ w / 100 < 10000 by omega)]
  by_cases h7 : w < 10000000
  · rw [if_pos h7, if_pos (show w / 100 < 100000 by omega)]
  rw [if_neg h7, if_neg (show ¬ w / 100 < 100000 by omega)]
  by_cases h8 : w < 100000000
  · rw [if_pos h8, if_pos (show w / 100 < 1000000 by omega)]
  rw [if_neg h8, if_neg (show ¬ w / 100 < 1000000 by omega)]
  by_cases h9 : w < 1000000000
  · rw [if_pos h9, if_pos (show w / 100 < 10000000 by omega)]
  rw [if_neg h9, if_neg (show ¬ w / 100 < 10000000 by omega)]
  rw [if_pos (show w / 100 < 100000000 by omega)]
theorem sb_negT {w : Nat} (h : w < 2 ^ 31) : (-nI w).toInt = -(w : Int) := by
  rw [Int32.toInt_neg, nI_toInt h]
  exact Int.bmod_eq_of_le (by omega) (by omega)
theorem sb_nle {a b : Nat} (ha : a < 2 ^ 31) (hb : b < 2 ^ 31) : -nI a ≤ -nI b ↔ b ≤ a := by
  rw [Int32.le_iff_toInt_le, sb_negT ha, sb_negT hb]
  omega
theorem sb_nlt {a b : Nat} (ha : a < 2 ^ 31) (hb : b < 2 ^ 31) : -nI a < -nI b ↔ b < a := by
  rw [Int32.lt_iff_toInt_lt, sb_negT ha, sb_negT hb]
  omega
theorem sb_cmp {A B : Prop} {x : Int32} (v c : Nat) (f : c ≤ v → A) (g : v < c → B) (hv : v < 2 ^ 31) (hx : x = -nI c := by rfl) (hc : c < 2 ^ 31 := by omega) : (-nI v ≤ x → A) ∧ (¬ -nI v ≤ x → B) := by
  subst hx
  rw [sb_nle hv hc]
  exact ⟨f, fun z => g (by omega)⟩
theorem sb_ndiv {w : Nat} (hw : w < 2 ^ 31) : (-nI w) / 100 = -nI (w / 100) := by
  apply Int32.toInt_inj.mp
  have h100 : (100 : Int32).toInt = 100 := by decide
  rw [Int32.toInt_div, sb_negT hw, h100, sb_negT (by omega), Int.neg_tdiv, Int.tdiv_eq_ediv_of_nonneg (by omega), Int.bmod_eq_of_le (by omega) (by omega)]
  omega
theorem sb_nrem {w : Nat} (hw : w < 2 ^ 31) : (-nI (w / 100)) * 100 - (-nI w) = nI (w % 100) := by
  have h := pk_rem (a := w) (d := 100) hw (by decide) (by decide)
  rw [pk_div hw (by decide) (by decide)] at h
  rw [← h]
  show (-nI (w / 100)) * nI 100 - (-nI w) = nI w - nI (w / 100) * nI 100
  rw [Int32.neg_mul, Int32.sub_neg, Int32.add_comm, ← Int32.sub_eq_add_neg]

theorem s_l : ∀ n, n < 32 → ((nI n &&& 31).toBitVec.smod 32).toNat = n := by decide +kernel
theorem nx_and (a b : Nat) : nI a &&& nI b = nI (a &&& b) := by
  apply Int32.toBitVec_inj.1
  show BitVec.ofNat 32 a &&& BitVec.ofNat 32 b = BitVec.ofNat 32 (a &&& b)
  apply BitVec.eq_of_getLsbD_eq
  intro i hi
  simp [hi]
theorem nx_xor (a b : Nat) : nI a ^^^ nI b = nI (a ^^^ b) := by
  apply Int32.toBitVec_inj.1
  show BitVec.ofNat 32 a ^^^ BitVec.ofNat 32 b = BitVec.ofNat 32 (a ^^^ b)
  apply BitVec.eq_of_getLsbD_eq
  intro i hi
  simp [hi]
end
section
/-! sums over a field, counts of a Boolean row -/
theorem pw_0 {F : Type} [Lean.Grind.Field F] (x : F) : x ^ 0 = 1 := Lean.Grind.Semiring.pow_zero x
theorem pw_s {F : Type} [Lean.Grind.Field F] (x : F) (n : Nat) : x ^ (n + 1) = x ^ n * x := Lean.Grind.Semiring.pow_succ x n
theorem pw_a {F : Type} [Lean.Grind.Field F] (x : F) (m n : Nat) : x ^ (m + n) = x ^ m * x ^ n := Lean.Grind.Semiring.pow_add x m n
theorem pw_1 {F : Type} [Lean.Grind.Field F] (n : Nat) : (1 : F) ^ n = 1 := by
  induction n with
  | zero => exact pw_0 _
  | succ n ih => rw [pw_s, ih]; grind
theorem pw_m {F : Type} [Lean.Grind.Field F] (x y : F) (n : Nat) : (x * y) ^ n = x ^ n * y ^ n := by
  induction n with
  | zero => rw [pw_0, pw_0, pw_0]; grind
  | succ n ih => rw [pw_s, pw_s, pw_s, ih]; grind
theorem pw_p {F : Type} [Lean.Grind.Field F] (x : F) (m n : Nat) : x ^ (m * n) = (x ^ m) ^ n := by
  induction n with
  | zero => rw [Nat.mul_zero, pw_0, pw_0]
  | succ n ih => rw [Nat.mul_succ, pw_a, pw_s, ih]
theorem fz_0 {F : Type} [Lean.Grind.Field F] {a b : F} (h : a * b = 0) (hb : b ≠ 0) : a = 0 := by
  have e : a = (a * b) * b⁻¹ := by
    rw [Lean.Grind.Semiring.mul_assoc, Lean.Grind.Field.mul_inv_cancel hb, Lean.Grind.Semiring.mul_one]
  rw [e, h, Lean.Grind.Semiring.zero_mul]
theorem fz_1 {F : Type} [Lean.Grind.Field F] : (1 : F) ≠ 0 := fun h => Lean.Grind.Field.zero_ne_one (α := F) h.symm
theorem fz_m {F : Type} [Lean.Grind.Field F] {a b : F} (ha : a ≠ 0) (hb : b ≠ 0) : a * b ≠ 0 := fun h => ha (fz_0 h hb)
theorem fz_p {F : Type} [Lean.Grind.Field F] {a : F} (ha : a ≠ 0) (n : Nat) : a ^ n ≠ 0 := by
  induction n with
  | zero => rw [pw_0]; exact fz_1
  | succ n ih => rw [pw_s]; exact fz_m ih ha
theorem fz_i {F : Type} [Lean.Grind.Field F] {a : F} (ha : a ≠ 0) : a * a⁻¹ = 1 := Lean.Grind.Field.mul_inv_cancel ha
theorem fz_c {F : Type} [Lean.Grind.Field F] {a b c : F} (h : a * c = b * c) (hc : c ≠ 0) : a = b := by
  have e : (a - b) * c = 0 := by grind
  have := fz_0 e hc
  grind
theorem c2_s {F : Type} [Lean.Grind.Field F] [Lean.Grind.IsCharP F 2] (x : F) : x + x = 0 := by grind
theorem c2_e {F : Type} [Lean.Grind.Field F] [Lean.Grind.IsCharP F 2] {x y : F} (h : x + y = 0) : x = y := by grind
theorem c2_n {F : Type} [Lean.Grind.Field F] [Lean.Grind.IsCharP F 2] (x : F) : -x = x := by grind

def sm_s {F : Type} [Lean.Grind.Field F] (f : Nat → F) : Nat → F
  | 0 => 0
  | n + 1 => sm_s f n + f n
theorem sm_0 {F : Type} [Lean.Grind.Field F] (f : Nat → F) : sm_s f 0 = 0 := rfl
theorem sm_n {F : Type} [Lean.Grind.Field F] (f : Nat → F) (n : Nat) : sm_s f (n + 1) = sm_s f n + f n := rfl
theorem sm_congr {F : Type} [Lean.Grind.Field F] {f g : Nat → F} : ∀ {n : Nat}, (∀ i, i < n → f i = g i) → sm_s f n = sm_s g n := by
  intro n
  induction n with
  | zero => intro _; rfl
  | succ n ih => intro h; rw [sm_n, sm_n, ih (fun i hi => h i (by omega)), h n (by omega)]
theorem sm_add {F : Type} [Lean.Grind.Field F] (f g : Nat → F) (n : Nat) : sm_s (fun i => f i + g i) n = sm_s f n + sm_s g n := by
  induction n with
  | zero => rw [sm_0, sm_0, sm_0]; grind
  | succ n ih => rw [sm_n, sm_n, sm_n, ih]; grind
theorem sm_mul {F : Type} [Lean.Grind.Field F] (c : F) (f : Nat → F) (n : Nat) : sm_s (fun i => c * f i) n = c * sm_s f n := by
  induction n with
  | zero => rw [sm_0, sm_0]; grind
  | succ n ih => rw [sm_n, sm_n, ih]; grind
theorem sm_mulr {F : Type} [Lean.Grind.Field F] (c : F) (f : Nat → F) (n : Nat) : sm_s (fun i => f i * c) n = sm_s f n * c := by
  induction n with
  | zero => rw [sm_0, sm_0]; grind
  | succ n ih => rw [sm_n, sm_n, ih]; grind
theorem sm_z {F : Type} [Lean.Grind.Field F] {f : Nat → F} : ∀ {n : Nat}, (∀ i, i < n → f i = 0) → sm_s f n = 0 := by
  intro n
  induction n with
  | zero => intro _; rfl
  | succ n ih => intro h; rw [sm_n, ih (fun i hi => h i (by omega)), h n (by omega)]; grind
theorem sm_swap {F : Type} [Lean.Grind.Field F] (f : Nat → Nat → F) (n m : Nat) : sm_s (fun i => sm_s (fun j => f i j) m) n = sm_s (fun j => sm_s (fun i => f i j) n) m := by
  induction n with
  | zero => rw [sm_0]; exact (sm_z (fun j _ => rfl)).symm
  | succ n ih =>
    rw [sm_n, ih]
    rw [← sm_add]
    exact sm_congr (fun j _ => rfl)
theorem sm_one {F : Type} [Lean.Grind.Field F] {f : Nat → F} : ∀ {n k : Nat}, k < n → (∀ i, i < n → i ≠ k → f i = 0) → sm_s f n = f k := by
  intro n
  induction n with
  | zero => intro k hk; omega
  | succ n ih =>
    intro k hk h
    rw [sm_n]
    by_cases e : k = n
    · subst e
      rw [sm_z (fun i hi => h i (by omega) (by omega))]; grind
    · rw [ih (by omega) (fun i hi hn => h i (by omega) hn), h n (by omega) (by omega)]; grind
theorem sm_first {F : Type} [Lean.Grind.Field F] (f : Nat → F) (n : Nat) : sm_s f (n + 1) = f 0 + sm_s (fun i => f (i + 1)) n := by
  induction n with
  | zero => rw [sm_n, sm_0, sm_0]; grind
  | succ n ih => rw [sm_n, ih, sm_n]; grind
theorem sm_ext {F : Type} [Lean.Grind.Field F] {f : Nat → F} {n : Nat} : ∀ {m : Nat}, n ≤ m → (∀ i, n ≤ i → i < m → f i = 0) → sm_s f m = sm_s f n := by
  intro m
  induction m with
  | zero => intro h _; rw [show n = 0 by omega]
  | succ m ih =>
    intro h hz
    by_cases e : n = m + 1
    · rw [e]
    · rw [sm_n, ih (by omega) (fun i h1 h2 => hz i h1 (by omega)), hz m (by omega) (by omega)]; grind
theorem sm_split {F : Type} [Lean.Grind.Field F] (f : Nat → F) (m n : Nat) : sm_s f (m + n) = sm_s f m + sm_s (fun i => f (m + i)) n := by
  induction n with
  | zero => rw [Nat.add_zero, sm_0]; grind
  | succ n ih => rw [← Nat.add_assoc, sm_n, ih, sm_n]; grind
theorem sm_rev {F : Type} [Lean.Grind.Field F] (f : Nat → F) (n : Nat) : sm_s (fun i => f (n - 1 - i)) n = sm_s f n := by
  induction n with
  | zero => rfl
  | succ n ih =>
    rw [sm_first, sm_n, ← ih]
    have e : sm_s (fun i => f (n + 1 - 1 - (i + 1))) n = sm_s (fun i => f (n - 1 - i)) n := sm_congr (fun i hi => by rw [show n + 1 - 1 - (i + 1) = n - 1 - i by omega])
    rw [e, show n + 1 - 1 - 0 = n by omega]; grind

/-- is it not 0 -/
noncomputable def nz_b {F : Type} [Lean.Grind.Field F] (x : F) : Bool := @decide (x ≠ 0) (Classical.propDecidable _)
theorem nz_t {F : Type} [Lean.Grind.Field F] {x : F} : nz_b x = true ↔ x ≠ 0 := by
  unfold nz_b; exact @decide_eq_true_iff (x ≠ 0) (Classical.propDecidable _)
theorem nz_f {F : Type} [Lean.Grind.Field F] {x : F} : nz_b x = false ↔ x = 0 := by
  cases h : nz_b x with
  | true =>
    have := nz_t.mp h
    exact ⟨(fun q => nomatch q), fun q => absurd q this⟩
  | false =>
    refine ⟨fun _ => ?_, fun _ => rfl⟩
    apply Classical.byContradiction
    intro q
    rw [nz_t.mpr q] at h
    exact nomatch h

def ct_c (P : Nat → Bool) : Nat → Nat
  | 0 => 0
  | n + 1 => ct_c P n + (if P n = true then 1 else 0)
theorem ct_0 (P : Nat → Bool) : ct_c P 0 = 0 := rfl
theorem ct_n (P : Nat → Bool) (n : Nat) : ct_c P (n + 1) = ct_c P n + (if P n = true then 1 else 0) := rfl
theorem ct_nt {P : Nat → Bool} {n : Nat} (h : P n = true) : ct_c P (n + 1) = ct_c P n + 1 := by rw [ct_n, if_pos h]
theorem ct_nf {P : Nat → Bool} {n : Nat} (h : P n = false) : ct_c P (n + 1) = ct_c P n := by rw [ct_n, if_neg (by rw [h]; exact fun q => nomatch q)]; rfl
theorem ct_le (P : Nat → Bool) (n : Nat) : ct_c P n ≤ n := by
  induction n with
  | zero => exact Nat.le_refl _
  | succ n ih => rw [ct_n]; split <;> omega
theorem ct_mon (P : Nat → Bool) {m n : Nat} (h : m ≤ n) : ct_c P m ≤ ct_c P n := by
  induction n with
  | zero => rw [show m = 0 by omega]; exact Nat.le_refl _
  | succ n ih =>
    by_cases e : m = n + 1
    · rw [e]; exact Nat.le_refl _
    · have := ih (by omega)
      rw [ct_n]; omega
theorem ct_lt {P : Nat → Bool} {k n : Nat} (h : k < n) (hk : P k = true) : ct_c P k < ct_c P n := by
  have := ct_mon P (show k + 1 ≤ n by omega)
  rw [ct_nt hk] at this; omega
theorem ct_congr {P Q : Nat → Bool} : ∀ {n : Nat}, (∀ i, i < n → P i = Q i) → ct_c P n = ct_c Q n := by
  intro n
  induction n with
  | zero => intro _; rfl
  | succ n ih => intro h; rw [ct_n, ct_n, ih (fun i hi => h i (by omega)), h n (by omega)]
theorem ct_sub {P Q : Nat → Bool} : ∀ {n : Nat}, (∀ i, i < n → P i = true → Q i = true) → ct_c P n ≤ ct_c Q n := by
  intro n
  induction n with
  | zero => intro _; exact Nat.le_refl _
  | succ n ih =>
    intro h
    have a := ih (fun i hi => h i (by omega))
    rw [ct_n, ct_n]
    by_cases q : P n = true
    · rw [if_pos q, if_pos (h n (by omega) q)]; omega
    · rw [if_neg q]; omega
theorem ct_ssub {P Q : Nat → Bool} : ∀ {n k : Nat}, (∀ i, i < n → P i = true → Q i = true) → k < n → P k = false → Q k = true → ct_c P n < ct_c Q n := by
  intro n
  induction n with
  | zero => intro k _ hk; omega
  | succ n ih =>
    intro k h hk hp hq
    rw [ct_n, ct_n]
    by_cases e : k = n
    · subst e
      have a := ct_sub (n := k) (fun i hi => h i (by omega))
      rw [if_pos hq, if_neg (by rw [hp]; exact fun q => nomatch q)]; omega
    · have a := ih (fun i hi => h i (by omega)) (show k < n by omega) hp hq
      by_cases q : P n = true
      · rw [if_pos q, if_pos (h n (by omega) q)]; omega
      · rw [if_neg q]; omega
theorem ct_zf {P : Nat → Bool} {n : Nat} (h : ct_c P n = 0) : ∀ i, i < n → P i = false := by
  intro i hi
  cases q : P i with
  | false => rfl
  | true => have := ct_lt hi q; omega
theorem ct_pos {P : Nat → Bool} {n : Nat} (h : 0 < ct_c P n) : ∃ i, i < n ∧ P i = true := by
  apply Classical.byContradiction
  intro q
  have z : ∀ i, i < n → P i = (fun _ => false) i := by
    intro i hi
    cases e : P i with
    | false => rfl
    | true => exact absurd ⟨i, hi, e⟩ q
  have e := ct_congr z
  have f : ∀ m, ct_c (fun _ => false) m = 0 := by
    intro m
    induction m with
    | zero => rfl
    | succ m ih => rw [ct_nf rfl, ih]
  rw [e, f] at h; omega
theorem ct_all {P Q : Nat → Bool} {n : Nat} (h : ∀ i, i < n → P i = true → Q i = true) (hc : ct_c Q n ≤ ct_c P n) : ∀ i, i < n → P i = Q i := by
  intro i hi
  cases p : P i with
  | true => exact (h i hi p).symm
  | false =>
    cases q : Q i with
    | false => rfl
    | true => have := ct_ssub h hi p q; omega
theorem ct_or {P Q : Nat → Bool} : ∀ {n : Nat}, (∀ i, i < n → P i = true → Q i = false) → ct_c (fun i => P i || Q i) n = ct_c P n + ct_c Q n := by
  intro n
  induction n with
  | zero => intro _; rfl
  | succ n ih =>
    intro h
    rw [ct_n, ct_n, ct_n, ih (fun i hi => h i (by omega))]
    cases p : P n with
    | true => rw [h n (by omega) p]; simp; omega
    | false => cases Q n <;> simp <;> omega
/-- one taken away -/
def ct_rm (P : Nat → Bool) (k : Nat) : Nat → Bool := fun i => P i && !(i == k)
theorem ct_rmk (P : Nat → Bool) (k : Nat) : ct_rm P k k = false := by unfold ct_rm; simp
theorem ct_rmn (P : Nat → Bool) {k i : Nat} (h : i ≠ k) : ct_rm P k i = P i := by unfold ct_rm; simp [h]
theorem ct_rmc {P : Nat → Bool} {n k : Nat} (hk : k < n) (h : P k = true) : ct_c (ct_rm P k) n + 1 = ct_c P n := by
  have e : ct_c (fun i => ct_rm P k i || (i == k)) n = ct_c (ct_rm P k) n + ct_c (fun i => i == k) n := by
    apply ct_or
    intro i _ hi
    by_cases q : i = k
    · rw [q, ct_rmk] at hi; exact nomatch hi
    · simp [q]
  have f : ct_c (fun i => ct_rm P k i || (i == k)) n = ct_c P n := by
    apply ct_congr
    intro i _
    by_cases q : i = k
    · rw [q, h]; simp
    · rw [ct_rmn P q]; simp [q]
  have g : ∀ m, ct_c (fun i => i == k) m = if k < m then 1 else 0 := by
    intro m
    induction m with
    | zero => rfl
    | succ m ih =>
      rw [ct_n, ih]
      by_cases q : m = k
      · subst q; simp
      · simp only [beq_iff_eq, if_neg q]
        by_cases r : k < m
        · rw [if_pos r, if_pos (by omega)]
        · rw [if_neg r, if_neg (by omega)]
  rw [f, g, if_pos hk] at e
  omega
end
section
/-! few terms: a sum over powers of different nodes that vanishes often enough has no terms; a polynomial has few roots -/
theorem vd_sp {F : Type} [Lean.Grind.Field F] {X : Nat → F} {N : Nat} (hX : ∀ i j, i < N → j < N → X i = X j → i = j) : ∀ (n : Nat) (c : Nat → F), ct_c (fun i => nz_b (c i)) N ≤ n → (∀ j, j < n → sm_s (fun i => c i * X i ^ j) N = 0) → ∀ i, i < N → c i = 0 := by
  intro n
  induction n with
  | zero =>
    intro c hc _ i hi
    exact nz_f.mp (ct_zf (Nat.le_zero.mp hc) i hi)
  | succ n ih =>
    intro c hc hs
    by_cases hz : ∀ i, i < N → c i = 0
    · exact hz
    · have ⟨k, hk, h0⟩ : ∃ k, k < N ∧ c k ≠ 0 := by
        apply Classical.byContradiction
        intro h
        apply hz
        intro i hi
        apply Classical.byContradiction
        intro h'
        exact h ⟨i, hi, h'⟩
      exfalso
      have key := ih (fun i => c i * (X i - X k)) (by
          have a : ct_c (fun i => nz_b (c i * (X i - X k))) N < ct_c (fun i => nz_b (c i)) N := by
            refine ct_ssub (k := k) ?_ hk ?_ (nz_t.mpr h0)
            · intro i _ hi
              have hi := nz_t.mp hi
              apply nz_t.mpr
              intro e
              apply hi
              rw [e]; grind
            · apply nz_f.mpr; grind
          omega) (by
          intro j hj
          have a := hs (j + 1) (by omega)
          have b := hs j (by omega)
          have e : sm_s (fun i => c i * (X i - X k) * X i ^ j) N = sm_s (fun i => c i * X i ^ (j + 1)) N + (- X k) * sm_s (fun i => c i * X i ^ j) N := by
            rw [← sm_mul, ← sm_add]
            apply sm_congr
            intro i _
            rw [pw_s]; grind
          rw [e, a, b]; grind)
      have hc0 : ∀ i, i < N → i ≠ k → c i = 0 := by
        intro i hi hn
        refine fz_0 (key i hi) ?_
        intro e
        apply hn
        apply hX i k hi hk
        grind
      have h1 := hs 0 (by omega)
      rw [sm_one hk (fun i hi hn => by rw [hc0 i hi hn]; grind), pw_0] at h1
      apply h0
      grind

/-- value of a polynomial with n coefficients -/
def ev_l {F : Type} [Lean.Grind.Field F] (C : Nat → F) (n : Nat) (z : F) : F := sm_s (fun t => C t * z ^ t) n
theorem ev_n {F : Type} [Lean.Grind.Field F] (C : Nat → F) (n : Nat) (z : F) : ev_l C (n + 1) z = ev_l C n z + C n * z ^ n := rfl
theorem ev_0 {F : Type} [Lean.Grind.Field F] (C : Nat → F) (z : F) : ev_l C 0 z = 0 := rfl
theorem ev_ext {F : Type} [Lean.Grind.Field F] {C : Nat → F} {n m : Nat} (h : n ≤ m) (hz : ∀ i, n ≤ i → i < m → C i = 0) (z : F) : ev_l C m z = ev_l C n z :=
  sm_ext h (fun i h1 h2 => by rw [hz i h1 h2]; grind)
theorem ev_congr {F : Type} [Lean.Grind.Field F] {C D : Nat → F} {n : Nat} (h : ∀ i, i < n → C i = D i) (z : F) : ev_l C n z = ev_l D n z :=
  sm_congr (fun i hi => by rw [h i hi])
theorem ev_sh {F : Type} [Lean.Grind.Field F] (C : Nat → F) (n : Nat) (z : F) : ev_l C (n + 1) z = C 0 + z * ev_l (fun t => C (t + 1)) n z := by
  unfold ev_l
  rw [sm_first, ← sm_mul, pw_0]
  have : sm_s (fun i => C (i + 1) * z ^ (i + 1)) n = sm_s (fun i => z * (C (i + 1) * z ^ i)) n := sm_congr (fun i _ => by rw [pw_s]; grind)
  rw [this]; grind
theorem ev_add {F : Type} [Lean.Grind.Field F] (C D : Nat → F) (n : Nat) (z : F) : ev_l (fun t => C t + D t) n z = ev_l C n z + ev_l D n z := by
  unfold ev_l
  rw [← sm_add]
  exact sm_congr (fun i _ => by grind)
theorem ev_mul {F : Type} [Lean.Grind.Field F] (c : F) (C : Nat → F) (n : Nat) (z : F) : ev_l (fun t => c * C t) n z = c * ev_l C n z := by
  unfold ev_l
  rw [← sm_mul]
  exact sm_congr (fun i _ => by grind)
/-- the quotient by (z - y) of a polynomial with coefficients 0 .. d + 1 -/
def rt_q {F : Type} [Lean.Grind.Field F] (C : Nat → F) (d : Nat) (y : F) (t : Nat) : F := ev_l (fun k => C (t + 1 + k)) (d + 1 - t) y
theorem rt_qs {F : Type} [Lean.Grind.Field F] (C : Nat → F) (d : Nat) (y : F) (t : Nat) (h : t ≤ d) : rt_q C d y t = C (t + 1) + y * rt_q C d y (t + 1) := by
  unfold rt_q
  rw [show d + 1 - t = (d + 1 - (t + 1)) + 1 by omega, ev_sh]
  have : ev_l (fun k => C (t + 1 + (k + 1))) (d + 1 - (t + 1)) y = ev_l (fun k => C (t + 1 + 1 + k)) (d + 1 - (t + 1)) y := ev_congr (fun i _ => by rw [show t + 1 + (i + 1) = t + 1 + 1 + i by omega]) y
  rw [this, Nat.add_zero]
theorem rt_qe {F : Type} [Lean.Grind.Field F] (C : Nat → F) (d : Nat) (y : F) : rt_q C d y (d + 1) = 0 := by
  unfold rt_q
  rw [Nat.sub_self]; rfl
theorem rt_q0 {F : Type} [Lean.Grind.Field F] (C : Nat → F) (d : Nat) (y : F) : ev_l C (d + 2) y = C 0 + y * rt_q C d y 0 := by
  rw [ev_sh]
  unfold rt_q
  have : ev_l (fun k => C (k + 1)) (d + 1) y = ev_l (fun k => C (0 + 1 + k)) (d + 1 - 0) y := ev_congr (fun i _ => by rw [show 0 + 1 + i = i + 1 by omega]) y
  rw [this]
theorem rt_div {F : Type} [Lean.Grind.Field F] (C : Nat → F) (d : Nat) (y z : F) : ev_l C (d + 2) z = (z - y) * ev_l (rt_q C d y) (d + 1) z + ev_l C (d + 2) y := by
  rw [ev_sh C (d + 1) z]
  have a : ev_l (fun t => C (t + 1)) (d + 1) z = ev_l (rt_q C d y) (d + 1) z + (- y) * ev_l (fun t => rt_q C d y (t + 1)) (d + 1) z := by
    rw [← ev_mul, ← ev_add]
    apply ev_congr
    intro i hi
    rw [rt_qs C d y i (by omega)]; grind
  have b := ev_sh (rt_q C d y) (d + 1) z
  rw [ev_n, rt_qe] at b
  have c := rt_q0 C d y
  rw [a, c]
  generalize ev_l (rt_q C d y) (d + 1) z = A at *
  generalize ev_l (fun t => rt_q C d y (t + 1)) (d + 1) z = B at *
  generalize rt_q C d y 0 = q at *
  have b' : z * B = A - q := by grind
  have : z * (A + -y * B) = z * A - y * (z * B) := by grind
  rw [this, b']; grind
theorem rt_bd {F : Type} [Lean.Grind.Field F] {y : Nat → F} {N : Nat} (hy : ∀ i j, i < N → j < N → y i = y j → i = j) : ∀ (d : Nat) (C : Nat → F) (R : Nat → Bool), (∀ i, i < N → R i = true → ev_l C (d + 1) (y i) = 0) → d + 1 ≤ ct_c R N → ∀ t, t ≤ d → C t = 0 := by
  intro d
  induction d with
  | zero =>
    intro C R hR hc t ht
    obtain ⟨i, hi, h⟩ := ct_pos (show 0 < ct_c R N by omega)
    have := hR i hi h
    rw [ev_n, ev_0, pw_0] at this
    rw [show t = 0 by omega]
    grind
  | succ d ih =>
    intro C R hR hc t ht
    obtain ⟨k, hk, h⟩ := ct_pos (show 0 < ct_c R N by omega)
    have hk0 := hR k hk h
    have key := ih (rt_q C d (y k)) (ct_rm R k) (by
      intro i hi hr
      have hn : i ≠ k := by
        intro e
        rw [e, ct_rmk] at hr
        exact nomatch hr
      rw [ct_rmn R hn] at hr
      have a := rt_div C d (y k) (y i)
      rw [hk0, hR i hi hr] at a
      have e : ev_l (rt_q C d (y k)) (d + 1) (y i) * (y i - y k) = 0 := by grind
      refine fz_0 e ?_
      intro q
      apply hn
      apply hy i k hi hk
      grind) (by
      have := ct_rmc hk h
      omega)
    have z : ∀ t, rt_q C d (y k) t = 0 ∨ d + 1 < t := by
      intro t
      by_cases h1 : t ≤ d
      · exact Or.inl (key t h1)
      · by_cases h2 : t = d + 1
        · rw [h2]; exact Or.inl (rt_qe _ _ _)
        · exact Or.inr (by omega)
    cases t with
    | zero =>
      have c := rt_q0 C d (y k)
      rw [hk0, key 0 (by omega)] at c
      grind
    | succ t =>
      have c := rt_qs C d (y k) t (by omega)
      rw [key t (by omega)] at c
      have w : rt_q C d (y k) (t + 1) = 0 := by
        rcases z (t + 1) with h | h
        · exact h
        · omega
      rw [w] at c
      grind
end
section
/-! the locator: products of factors 1 + x z, lowest power first -/
def on_e {F : Type} [Lean.Grind.Field F] : Nat → F := fun t => if t = 0 then 1 else 0
theorem on_0 {F : Type} [Lean.Grind.Field F] : (on_e 0 : F) = 1 := if_pos rfl
theorem on_s {F : Type} [Lean.Grind.Field F] {t : Nat} (h : 0 < t) : (on_e t : F) = 0 := if_neg (by omega)
def fc_f {F : Type} [Lean.Grind.Field F] (x : F) (q : Nat → F) : Nat → F
  | 0 => q 0
  | t + 1 => q (t + 1) + x * q t
theorem fc_0 {F : Type} [Lean.Grind.Field F] (x : F) (q : Nat → F) : fc_f x q 0 = q 0 := rfl
theorem fc_s {F : Type} [Lean.Grind.Field F] (x : F) (q : Nat → F) (t : Nat) : fc_f x q (t + 1) = q (t + 1) + x * q t := rfl
theorem fc_com {F : Type} [Lean.Grind.Field F] (x y : F) (q : Nat → F) : fc_f x (fc_f y q) = fc_f y (fc_f x q) := by
  funext t
  cases t with
  | zero => rfl
  | succ t =>
    cases t with
    | zero => rw [fc_s, fc_s, fc_0, fc_s, fc_s, fc_0]; grind
    | succ t => rw [fc_s, fc_s, fc_s, fc_s, fc_s, fc_s]; grind
theorem fc_dg {F : Type} [Lean.Grind.Field F] {x : F} {q : Nat → F} {d : Nat} (h : ∀ t, d < t → q t = 0) : ∀ t, d + 1 < t → fc_f x q t = 0 := by
  intro t ht
  cases t with
  | zero => omega
  | succ t => rw [fc_s, h (t + 1) (by omega), h t (by omega)]; grind
theorem fc_ev {F : Type} [Lean.Grind.Field F] {x : F} {q : Nat → F} {d : Nat} (h : q d = 0) (z : F) : ev_l (fc_f x q) (d + 1) z = (1 + x * z) * ev_l q d z := by
  rw [ev_sh, fc_0]
  have a : ev_l (fun t => fc_f x q (t + 1)) d z = ev_l (fun t => q (t + 1)) d z + x * ev_l q d z := by
    rw [← ev_mul, ← ev_add]
    rfl
  have b := ev_sh q d z
  rw [ev_n, h] at b
  rw [a]
  have c : z * ev_l (fun t => q (t + 1)) d z = ev_l q d z - q 0 := by grind
  have : z * (ev_l (fun t => q (t + 1)) d z + x * ev_l q d z) = z * ev_l (fun t => q (t + 1)) d z + x * z * ev_l q d z := by grind
  rw [this, c]; grind
/-- the factors of the cells i < n with M i, onto q -/
def lm_l {F : Type} [Lean.Grind.Field F] (X : Nat → F) (M : Nat → Bool) (q : Nat → F) : Nat → (Nat → F)
  | 0 => q
  | i + 1 => if M i = true then fc_f (X i) (lm_l X M q i) else lm_l X M q i
theorem lm_t {F : Type} [Lean.Grind.Field F] {X : Nat → F} {M : Nat → Bool} {q : Nat → F} {i : Nat} (h : M i = true) : lm_l X M q (i + 1) = fc_f (X i) (lm_l X M q i) := if_pos h
theorem lm_f {F : Type} [Lean.Grind.Field F] {X : Nat → F} {M : Nat → Bool} {q : Nat → F} {i : Nat} (h : M i = false) : lm_l X M q (i + 1) = lm_l X M q i := if_neg (by rw [h]; exact fun q => nomatch q)
theorem lm_congr {F : Type} [Lean.Grind.Field F] {X Z : Nat → F} {M R : Nat → Bool} {q : Nat → F} : ∀ {n : Nat}, (∀ i, i < n → M i = R i) → (∀ i, i < n → X i = Z i) → lm_l X M q n = lm_l Z R q n := by
  intro n
  induction n with
  | zero => intro _ _; rfl
  | succ n ih =>
    intro h h2
    have e := ih (fun i hi => h i (by omega)) (fun i hi => h2 i (by omega))
    cases p : M n with
    | true => rw [lm_t p, lm_t (by rw [← h n (by omega)]; exact p), e, h2 n (by omega)]
    | false => rw [lm_f p, lm_f (by rw [← h n (by omega)]; exact p), e]
theorem lm_dg {F : Type} [Lean.Grind.Field F] {X : Nat → F} {M : Nat → Bool} {q : Nat → F} {d : Nat} (h : ∀ t, d < t → q t = 0) : ∀ n t, d + ct_c M n < t → lm_l X M q n t = 0 := by
  intro n
  induction n with
  | zero => intro t ht; exact h t (by rw [ct_0] at ht; omega)
  | succ n ih =>
    intro t ht
    cases p : M n with
    | true =>
      rw [lm_t p]
      rw [ct_nt p] at ht
      exact fc_dg ih t (by omega)
    | false =>
      rw [lm_f p]
      rw [ct_nf p] at ht
      exact ih t ht
theorem lm_dg1 {F : Type} [Lean.Grind.Field F] {X : Nat → F} {M : Nat → Bool} (n t : Nat) (h : ct_c M n < t) : lm_l X M (on_e : Nat → F) n t = 0 :=
  lm_dg (d := 0) (fun t ht => on_s ht) n t (by omega)
theorem lm_fc {F : Type} [Lean.Grind.Field F] (X : Nat → F) (M : Nat → Bool) (x : F) (q : Nat → F) : ∀ n, lm_l X M (fc_f x q) n = fc_f x (lm_l X M q n) := by
  intro n
  induction n with
  | zero => rfl
  | succ n ih =>
    cases p : M n with
    | true => rw [lm_t p, lm_t p, ih, fc_com]
    | false => rw [lm_f p, lm_f p, ih]
theorem lm_or {F : Type} [Lean.Grind.Field F] (X : Nat → F) (P Q : Nat → Bool) (q : Nat → F) : ∀ n, (∀ i, i < n → P i = true → Q i = false) → lm_l X Q (lm_l X P q n) n = lm_l X (fun i => P i || Q i) q n := by
  intro n
  induction n with
  | zero => intro _; rfl
  | succ n ih =>
    intro h
    have e := ih (fun i hi => h i (by omega))
    cases p : P n with
    | true =>
      have r := h n (by omega) p
      rw [lm_f r, lm_t p, lm_fc, e, lm_t (by rw [p]; rfl)]
    | false =>
      rw [lm_f (M := P) p]
      cases r : Q n with
      | true => rw [lm_t r, e, lm_t (by rw [r]; simp)]
      | false => rw [lm_f r, e, lm_f (by rw [p, r]; rfl)]
theorem lm_rm {F : Type} [Lean.Grind.Field F] (X : Nat → F) (M : Nat → Bool) (q : Nat → F) {k : Nat} (hk : M k = true) : ∀ n, k < n → lm_l X M q n = fc_f (X k) (lm_l X (ct_rm M k) q n) := by
  intro n
  induction n with
  | zero => intro h; omega
  | succ n ih =>
    intro h
    by_cases e : k = n
    · subst e
      rw [lm_t hk, lm_f (ct_rmk M k)]
      rw [lm_congr (fun i hi => (ct_rmn M (show i ≠ k by omega)).symm) (fun _ _ => rfl)]
    · have a := ih (by omega)
      cases p : M n with
      | true => rw [lm_t p, a, lm_t (by rw [ct_rmn M (by omega)]; exact p), fc_com]
      | false => rw [lm_f p, a, lm_f (by rw [ct_rmn M (by omega)]; exact p)]
/-- the locator's value with 9 coefficients -/
theorem lm_ev {F : Type} [Lean.Grind.Field F] {X : Nat → F} {M : Nat → Bool} {k n : Nat} (hk : k < n) (hM : M k = true) (h8 : ct_c M n ≤ 8) (z : F) : ev_l (lm_l X M (on_e : Nat → F) n) 9 z = (1 + X k * z) * ev_l (lm_l X (ct_rm M k) (on_e : Nat → F) n) 9 z := by
  have c := ct_rmc hk hM
  have z8 : lm_l X (ct_rm M k) (on_e : Nat → F) n 8 = 0 := lm_dg1 n 8 (by omega)
  rw [lm_rm X M _ hM n hk, fc_ev z8, ev_n _ 8, z8]; grind
theorem lm_ne {F : Type} [Lean.Grind.Field F] {X : Nat → F} {M : Nat → Bool} {z : F} : ∀ n, (∀ i, i < n → M i = true → 1 + X i * z ≠ 0) → ct_c M n ≤ 8 → ev_l (lm_l X M (on_e : Nat → F) n) 9 z ≠ 0 := by
  intro n
  induction n with
  | zero =>
    intro _ _
    show ev_l on_e 9 z ≠ 0
    rw [ev_ext (n := 1) (by omega) (fun i h1 _ => on_s (by omega)), ev_n, ev_0, on_0, pw_0]
    have : (0 : F) + 1 * 1 = 1 := by grind
    rw [this]
    exact fz_1
  | succ n ih =>
    intro h hc
    cases p : M n with
    | false => rw [lm_f p]; exact ih (fun i hi => h i (by omega)) (by rw [ct_nf p] at hc; exact hc)
    | true =>
      rw [ct_nt p] at hc
      have z8 : lm_l X M (on_e : Nat → F) n 8 = 0 := lm_dg1 n 8 (by omega)
      have a := ih (fun i hi => h i (by omega)) (by omega)
      rw [ev_n _ 8, z8] at a
      rw [lm_t p, fc_ev z8]
      refine fz_m (h n (by omega) p) ?_
      intro e
      apply a
      rw [e]; grind
end
section
/-! shift-register synthesis -/
def bm_gap {F : Type} [Lean.Grind.Field F] (md : Nat → F) (n sz : Nat) (rg : Nat → F) : F := sm_s (fun l => rg l * md (n - l)) (sz + 1)
def bm_reg {F : Type} [Lean.Grind.Field F] (f : F) (sh : Nat) (rg pv : Nat → F) : Nat → F := fun t => if sh ≤ t ∧ t ≤ 8 then rg t + f * pv (t - sh) else rg t
noncomputable def bm_step {F : Type} [Lean.Grind.Field F] (md : Nat → F) (n : Nat) (s : Nat × Nat × F × (Nat → F) × (Nat → F)) : Nat × Nat × F × (Nat → F) × (Nat → F) :=
  if nz_b (bm_gap md n s.1 s.2.2.2.1) = true then
    (if 2 * s.1 ≤ n then (n + 1 - s.1, 1, bm_gap md n s.1 s.2.2.2.1, bm_reg (bm_gap md n s.1 s.2.2.2.1 * s.2.2.1⁻¹) s.2.1 s.2.2.2.1 s.2.2.2.2, s.2.2.2.1)
     else (s.1, s.2.1 + 1, s.2.2.1, bm_reg (bm_gap md n s.1 s.2.2.2.1 * s.2.2.1⁻¹) s.2.1 s.2.2.2.1 s.2.2.2.2, s.2.2.2.2))
  else (s.1, s.2.1 + 1, s.2.2.1, s.2.2.2.1, s.2.2.2.2)
noncomputable def bm_st {F : Type} [Lean.Grind.Field F] (md : Nat → F) : Nat → Nat × Nat × F × (Nat → F) × (Nat → F)
  | 0 => (0, 1, 1, on_e, on_e)
  | n + 1 => bm_step md n (bm_st md n)
theorem bm_s0 {F : Type} [Lean.Grind.Field F] {md : Nat → F} {n sz sh : Nat} {pg : F} {rg pv : Nat → F} (h : bm_gap md n sz rg = 0) : bm_step md n (sz, sh, pg, rg, pv) = (sz, sh + 1, pg, rg, pv) := by
  unfold bm_step
  exact if_neg (by rw [nz_f.mpr h]; exact fun q => nomatch q)
theorem bm_sg {F : Type} [Lean.Grind.Field F] {md : Nat → F} {n sz sh : Nat} {pg : F} {rg pv : Nat → F} (h : bm_gap md n sz rg ≠ 0) (g : 2 * sz ≤ n) : bm_step md n (sz, sh, pg, rg, pv) = (n + 1 - sz, 1, bm_gap md n sz rg, bm_reg (bm_gap md n sz rg * pg⁻¹) sh rg pv, rg) := by
  unfold bm_step
  rw [if_pos (nz_t.mpr h), if_pos g]
theorem bm_sn {F : Type} [Lean.Grind.Field F] {md : Nat → F} {n sz sh : Nat} {pg : F} {rg pv : Nat → F} (h : bm_gap md n sz rg ≠ 0) (g : ¬ 2 * sz ≤ n) : bm_step md n (sz, sh, pg, rg, pv) = (sz, sh + 1, pg, bm_reg (bm_gap md n sz rg * pg⁻¹) sh rg pv, pv) := by
  unfold bm_step
  rw [if_pos (nz_t.mpr h), if_neg g]
/-- what holds for any sequence -/
theorem bm_any {F : Type} [Lean.Grind.Field F] (md : Nat → F) : ∀ n, (bm_st md n).1 ≤ n ∧ 1 ≤ (bm_st md n).2.1 ∧ (bm_st md n).2.1 ≤ n + 1 ∧ (bm_st md n).2.2.1 ≠ 0 := by
  intro n
  induction n with
  | zero => exact ⟨Nat.le_refl _, Nat.le_refl _, Nat.le_refl _, fz_1⟩
  | succ n ih =>
    show (bm_step md n (bm_st md n)).1 ≤ n + 1 ∧ 1 ≤ (bm_step md n (bm_st md n)).2.1 ∧ (bm_step md n (bm_st md n)).2.1 ≤ n + 1 + 1 ∧ (bm_step md n (bm_st md n)).2.2.1 ≠ 0
    generalize bm_st md n = s at ih ⊢
    obtain ⟨sz, sh, pg, rg, pv⟩ := s
    dsimp only at ih
    obtain ⟨a, b, c, d⟩ := ih
    by_cases h : bm_gap md n sz rg = 0
    · rw [bm_s0 h]; dsimp only; exact ⟨by omega, by omega, by omega, d⟩
    · by_cases g : 2 * sz ≤ n
      · rw [bm_sg h g]; dsimp only; exact ⟨by omega, by omega, by omega, h⟩
      · rw [bm_sn h g]; dsimp only; exact ⟨by omega, by omega, by omega, d⟩
/-- the register's miss at m, by the nodes -/
def bm_D {F : Type} [Lean.Grind.Field F] (N : Nat) (c X y : Nat → F) (C : Nat → F) (m : Nat) : F := sm_s (fun i => c i * ev_l C 9 (y i) * X i ^ m) N
theorem bm_xy {F : Type} [Lean.Grind.Field F] {X y : F} (h : X * y = 1) {l n : Nat} (hl : l ≤ n) : X ^ (n - l) = X ^ n * y ^ l := by
  have a : X ^ n = X ^ (n - l) * X ^ l := by rw [← pw_a, show n - l + l = n by omega]
  have b : X ^ l * y ^ l = 1 := by rw [← pw_m, h, pw_1]
  rw [a]
  have : X ^ (n - l) * X ^ l * y ^ l = X ^ (n - l) * (X ^ l * y ^ l) := by grind
  rw [this, b]; grind
theorem bm_gD {F : Type} [Lean.Grind.Field F] {N : Nat} {c X y md : Nat → F} (hxy : ∀ i, i < N → X i * y i = 1) {n sz : Nat} {rg : Nat → F} (hm : ∀ m, m ≤ n → md m = sm_s (fun i => c i * X i ^ m) N) (hs : sz ≤ n) (h8 : sz ≤ 8) (hz : ∀ t, sz < t → rg t = 0) : bm_gap md n sz rg = bm_D N c X y rg n := by
  unfold bm_gap bm_D
  have a : sm_s (fun l => rg l * md (n - l)) (sz + 1) = sm_s (fun l => sm_s (fun i => c i * X i ^ n * (rg l * y i ^ l)) N) (sz + 1) := by
    apply sm_congr
    intro l hl
    rw [hm (n - l) (by omega), ← sm_mul]
    apply sm_congr
    intro i hi
    rw [bm_xy (hxy i hi) (show l ≤ n by omega)]; grind
  rw [a, sm_swap]
  apply sm_congr
  intro i hi
  rw [sm_mul, ev_ext (n := sz + 1) (by omega) (fun t h1 _ => hz t (by omega))]
  unfold ev_l
  grind
/-- ν zeros in a row: no node is left -/
theorem bm_all {F : Type} [Lean.Grind.Field F] {N : Nat} {c X y : Nat → F} (hX : ∀ i j, i < N → j < N → X i = X j → i = j) (h0 : ∀ i, i < N → X i ≠ 0) {C : Nat → F} {sz : Nat} (hD : ∀ j, j < ct_c (fun i => nz_b (c i)) N → bm_D N c X y C (sz + j) = 0) : ∀ i, i < N → c i * ev_l C 9 (y i) = 0 := by
  have key := vd_sp hX (ct_c (fun i => nz_b (c i)) N) (fun i => c i * ev_l C 9 (y i) * X i ^ sz) (by
    apply ct_sub
    intro i _ h
    have h := nz_t.mp h
    apply nz_t.mpr
    intro e
    apply h
    rw [e]; grind) (by
    intro j hj
    rw [← hD j hj]
    unfold bm_D
    apply sm_congr
    intro i _
    rw [pw_a]; grind)
  intro i hi
  exact fz_0 (key i hi) (fz_p (h0 i hi) sz)
theorem bm_evreg {F : Type} [Lean.Grind.Field F] {f : F} {sh sb : Nat} {rg pv : Nat → F} (h : sb + sh ≤ 8) (hz : ∀ t, sb < t → pv t = 0) (z : F) : ev_l (bm_reg f sh rg pv) 9 z = ev_l rg 9 z + f * z ^ sh * ev_l pv 9 z := by
  have a : ev_l (bm_reg f sh rg pv) 9 z = ev_l rg 9 z + ev_l (fun t => if sh ≤ t then f * pv (t - sh) else 0) 9 z := by
    rw [← ev_add]
    apply ev_congr
    intro t ht
    unfold bm_reg
    by_cases q : sh ≤ t
    · rw [if_pos ⟨q, by omega⟩, if_pos q]
    · rw [if_neg (fun w => q w.1), if_neg q]; grind
  rw [a, ev_ext (C := pv) (n := 9 - sh) (m := 9) (by omega) (fun t h1 _ => hz t (by omega))]
  have b : ∀ m, 9 = sh + m → ev_l (fun t => if sh ≤ t then f * pv (t - sh) else 0) 9 z = f * z ^ sh * ev_l pv m z := by
    intro m hm
    unfold ev_l
    rw [hm, sm_split, sm_z (n := sh) (fun i hi => by show (if sh ≤ i then f * pv (i - sh) else 0) * z ^ i = 0; rw [if_neg (by omega)]; grind), ← sm_mul]
    have : sm_s (fun i => (if sh ≤ sh + i then f * pv (sh + i - sh) else 0) * z ^ (sh + i)) m = sm_s (fun i => f * z ^ sh * (pv i * z ^ i)) m := by
      apply sm_congr
      intro i _
      rw [if_pos (by omega), show sh + i - sh = i by omega, pw_a]; grind
    rw [this]; grind
  rw [b (9 - sh) (by omega)]
theorem bm_Dreg {F : Type} [Lean.Grind.Field F] {N : Nat} {c X y : Nat → F} (hxy : ∀ i, i < N → X i * y i = 1) {f : F} {sh sb j : Nat} {rg pv : Nat → F} (h : sb + sh ≤ 8) (hz : ∀ t, sb < t → pv t = 0) (hj : sh ≤ j) : bm_D N c X y (bm_reg f sh rg pv) j = bm_D N c X y rg j + f * bm_D N c X y pv (j - sh) := by
  unfold bm_D
  rw [← sm_mul, ← sm_add]
  apply sm_congr
  intro i hi
  rw [bm_evreg h hz, bm_xy (hxy i hi) hj]; grind
def bm_I {F : Type} [Lean.Grind.Field F] (N : Nat) (c X y : Nat → F) (n : Nat) (s : Nat × Nat × F × (Nat → F) × (Nat → F)) : Prop :=
  s.2.2.2.1 0 = 1 ∧ (∀ t, s.1 < t → s.2.2.2.1 t = 0) ∧ s.1 ≤ n ∧ s.1 ≤ ct_c (fun i => nz_b (c i)) N ∧ (∀ j, s.1 ≤ j → j < n → bm_D N c X y s.2.2.2.1 j = 0) ∧ s.2.2.1 ≠ 0 ∧ 1 ≤ s.2.1 ∧
  ((s.1 = 0 ∧ s.2.1 = n + 1 ∧ ∀ t, 0 < t → s.2.2.2.2 t = 0) ∨ (∃ sb, sb + s.1 + s.2.1 = n + 1 ∧ s.2.1 ≤ n ∧ (∀ t, sb < t → s.2.2.2.2 t = 0) ∧ bm_D N c X y s.2.2.2.2 (n - s.2.1) = s.2.2.1 ∧ ∀ j, sb ≤ j → j < n - s.2.1 → bm_D N c X y s.2.2.2.2 j = 0))
theorem bm_inv {F : Type} [Lean.Grind.Field F] [Lean.Grind.IsCharP F 2] {N : Nat} {c X y md : Nat → F} (hX : ∀ i j, i < N → j < N → X i = X j → i = j) (h0 : ∀ i, i < N → X i ≠ 0) (hxy : ∀ i, i < N → X i * y i = 1) {K : Nat} (hK : K ≤ 8) (hm : ∀ m, m < K → md m = sm_s (fun i => c i * X i ^ m) N) : ∀ n, n ≤ K → bm_I N c X y n (bm_st md n) := by
  intro n
  induction n with
  | zero =>
    intro _
    exact ⟨on_0, fun t ht => on_s ht, Nat.le_refl _, Nat.zero_le _, fun j _ hj => absurd hj (by omega), fz_1, Nat.le_refl _, Or.inl ⟨rfl, rfl, fun t ht => on_s ht⟩⟩
  | succ n ih =>
    intro hn
    have ih := ih (by omega)
    show bm_I N c X y (n + 1) (bm_step md n (bm_st md n))
    generalize bm_st md n = s at ih ⊢
    obtain ⟨sz, sh, pg, rg, pv⟩ := s
    unfold bm_I at ih
    dsimp only at ih
    obtain ⟨r0, rz, zn, zv, rD, pn, s1, br⟩ := ih
    have gD : bm_gap md n sz rg = bm_D N c X y rg n := bm_gD hxy (fun m hm' => hm m (by omega)) zn (by omega) rz
    by_cases h : bm_gap md n sz rg = 0
    · rw [bm_s0 h]
      unfold bm_I
      dsimp only
      refine ⟨r0, rz, by omega, zv, ?_, pn, by omega, ?_⟩
      · intro j h1 h2
        by_cases e : j = n
        · rw [e, ← gD, h]
        · exact rD j h1 (by omega)
      · rcases br with ⟨a, b, d⟩ | ⟨sb, a, b, d, e, f⟩
        · exact Or.inl ⟨a, by omega, d⟩
        · refine Or.inr ⟨sb, by omega, by omega, d, ?_, ?_⟩
          · rw [show n + 1 - (sh + 1) = n - sh by omega]; exact e
          · rw [show n + 1 - (sh + 1) = n - sh by omega]; exact f
    · have hv : n + 1 - sz ≤ ct_c (fun i => nz_b (c i)) N := by
        apply Classical.byContradiction
        intro q
        apply h
        have al := bm_all hX h0 (sz := sz) (C := rg) (y := y) (c := c) (fun j hj => rD (sz + j) (by omega) (by omega))
        rw [gD]
        exact sm_z (fun i hi => by rw [al i hi]; grind)
      have r0' : bm_reg (bm_gap md n sz rg * pg⁻¹) sh rg pv 0 = 1 := by
        unfold bm_reg
        rw [if_neg (by omega)]; exact r0
      rcases br with ⟨a, b, d⟩ | ⟨sb, a, b, d, e, f⟩
      · have g : 2 * sz ≤ n := by omega
        rw [bm_sg h g]
        unfold bm_I
        dsimp only
        refine ⟨r0', ?_, by omega, hv, fun j h1 h2 => absurd h2 (by omega), h, Nat.le_refl _, Or.inr ⟨sz, by omega, by omega, rz, ?_, ?_⟩⟩
        · intro t ht
          unfold bm_reg
          rw [rz t (by omega)]
          by_cases q : sh ≤ t ∧ t ≤ 8
          · rw [if_pos q, d (t - sh) (by omega)]; grind
          · rw [if_neg q]
        · rw [show n + 1 - 1 = n by omega]; exact gD.symm
        · rw [show n + 1 - 1 = n by omega]; exact rD
      · have w : sb + sh ≤ 8 := by omega
        have newD : ∀ j, sb + sh ≤ j → sz ≤ j → j < n + 1 → bm_D N c X y (bm_reg (bm_gap md n sz rg * pg⁻¹) sh rg pv) j = 0 := by
          intro j h1 h2 h3
          rw [bm_Dreg hxy w d (by omega)]
          by_cases q : j = n
          · rw [q, e, ← gD]
            have := fz_i pn
            have e2 : bm_gap md n sz rg * pg⁻¹ * pg = bm_gap md n sz rg * (pg * pg⁻¹) := by grind
            rw [e2, this]; grind
          · rw [rD j h2 (by omega), f (j - sh) (by omega) (by omega)]; grind
        have newZ : ∀ t, sz < t → sb + sh < t → bm_reg (bm_gap md n sz rg * pg⁻¹) sh rg pv t = 0 := by
          intro t h1 h2
          unfold bm_reg
          rw [rz t h1]
          by_cases q : sh ≤ t ∧ t ≤ 8
          · rw [if_pos q, d (t - sh) (by omega)]; grind
          · rw [if_neg q]
        by_cases g : 2 * sz ≤ n
        · rw [bm_sg h g]
          unfold bm_I
          dsimp only
          refine ⟨r0', fun t ht => newZ t (by omega) (by omega), by omega, hv, fun j h1 h2 => newD j (by omega) (by omega) h2, h, Nat.le_refl _, Or.inr ⟨sz, by omega, by omega, rz, ?_, ?_⟩⟩
          · rw [show n + 1 - 1 = n by omega]; exact gD.symm
          · rw [show n + 1 - 1 = n by omega]; exact rD
        · rw [bm_sn h g]
          unfold bm_I
          dsimp only
          refine ⟨r0', fun t ht => newZ t (by omega) (by omega), by omega, zv, fun j h1 h2 => newD j (by omega) (by omega) h2, pn, by omega, Or.inr ⟨sb, by omega, by omega, d, ?_, ?_⟩⟩
          · rw [show n + 1 - (sh + 1) = n - sh by omega]; exact e
          · rw [show n + 1 - (sh + 1) = n - sh by omega]; exact f
/-- the register's size is the number of nodes, its roots are the nodes -/
theorem bm_ok {F : Type} [Lean.Grind.Field F] [Lean.Grind.IsCharP F 2] {N : Nat} {c X y md : Nat → F} (hX : ∀ i j, i < N → j < N → X i = X j → i = j) (hY : ∀ i j, i < N → j < N → y i = y j → i = j) (h0 : ∀ i, i < N → X i ≠ 0) (hxy : ∀ i, i < N → X i * y i = 1) {K : Nat} (hK : K ≤ 8) (hm : ∀ m, m < K → md m = sm_s (fun i => c i * X i ^ m) N) (h2 : 2 * ct_c (fun i => nz_b (c i)) N ≤ K) :
    (bm_st md K).1 = ct_c (fun i => nz_b (c i)) N ∧ ∀ i, i < N → nz_b (c i) = !nz_b (ev_l (bm_st md K).2.2.2.1 ((bm_st md K).1 + 1) (y i)) := by
  have I := bm_inv hX h0 hxy hK hm K (Nat.le_refl _)
  generalize bm_st md K = s at I
  obtain ⟨sz, sh, pg, rg, pv⟩ := s
  unfold bm_I at I
  dsimp only at I
  dsimp only
  obtain ⟨r0, rz, zn, zv, rD, pn, s1, br⟩ := I
  have al := bm_all hX h0 (sz := sz) (C := rg) (y := y) (c := c) (fun j hj => rD (sz + j) (by omega) (by omega))
  have e9 : ∀ z, ev_l rg 9 z = ev_l rg (sz + 1) z := fun z => ev_ext (by omega) (fun t h1 _ => rz t (by omega)) z
  have sub : ∀ i, i < N → (fun i => nz_b (c i)) i = true → (fun i => !nz_b (ev_l rg (sz + 1) (y i))) i = true := by
    intro i hi h
    have h : c i ≠ 0 := nz_t.mp h
    have a := al i hi
    have b : ev_l rg 9 (y i) * c i = 0 := by grind
    have := fz_0 b h
    rw [e9] at this
    show (!nz_b (ev_l rg (sz + 1) (y i))) = true
    rw [nz_f.mpr this]; rfl
  have few : ct_c (fun i => !nz_b (ev_l rg (sz + 1) (y i))) N ≤ sz := by
    apply Classical.byContradiction
    intro q
    have := rt_bd hY sz rg (fun i => !nz_b (ev_l rg (sz + 1) (y i))) (by
      intro i _ h
      apply nz_f.mp
      cases w : nz_b (ev_l rg (sz + 1) (y i)) with
      | false => rfl
      | true => rw [w] at h; exact nomatch h) (by omega) 0 (by omega)
    rw [r0] at this
    exact fz_1 this
  have c1 := ct_sub sub
  exact ⟨by omega, ct_all sub (by omega)⟩
end
section
/-! the decoder's mathematics: modified syndromes, Forney's values, uniqueness -/
theorem ct_orle (P Q : Nat → Bool) (n : Nat) : ct_c (fun i => P i || Q i) n ≤ ct_c P n + ct_c Q n := by
  induction n with
  | zero => exact Nat.le_refl _
  | succ n ih =>
    rw [ct_n, ct_n, ct_n]
    cases P n <;> cases Q n <;> simp <;> omega
def cv_c {F : Type} [Lean.Grind.Field F] (L S : Nat → F) (t : Nat) : F := sm_s (fun l => L l * S (t - l)) (t + 1)
theorem cv_congr {F : Type} [Lean.Grind.Field F] {L L' S S' : Nat → F} {t : Nat} (h : ∀ l, l ≤ t → L l = L' l) (h2 : ∀ l, l ≤ t → S l = S' l) : cv_c L S t = cv_c L' S' t :=
  sm_congr (fun l hl => by rw [h l (by omega), h2 (t - l) (by omega)])
theorem dc_md {F : Type} [Lean.Grind.Field F] {N p : Nat} {w X y S G : Nat → F} (hxy : ∀ i, i < N → X i * y i = 1) (hS : ∀ j, j < p → S j = sm_s (fun i => w i * X i ^ j) N) {s t : Nat} (hs : s ≤ 8) (hst : s ≤ t) (ht : t < p) (hG : ∀ l, s < l → G l = 0) : cv_c G S t = sm_s (fun i => w i * ev_l G 9 (y i) * X i ^ t) N := by
  unfold cv_c
  have a : sm_s (fun l => G l * S (t - l)) (t + 1) = sm_s (fun l => sm_s (fun i => w i * X i ^ t * (G l * y i ^ l)) N) (t + 1) := by
    apply sm_congr
    intro l hl
    rw [hS (t - l) (by omega), ← sm_mul]
    apply sm_congr
    intro i hi
    rw [bm_xy (hxy i hi) (show l ≤ t by omega)]; grind
  rw [a, sm_swap]
  apply sm_congr
  intro i hi
  rw [sm_mul, ev_ext (n := s + 1) (m := 9) (by omega) (fun l h1 _ => hG l (by omega)), ← ev_ext (n := s + 1) (m := t + 1) (by omega) (fun l h1 _ => hG l (by omega))]
  unfold ev_l
  grind
theorem fc_tel {F : Type} [Lean.Grind.Field F] [Lean.Grind.IsCharP F 2] (x : F) (q : Nat → F) : ∀ t, sm_s (fun l => fc_f x q l * x ^ (t - l)) (t + 1) = q t := by
  intro t
  induction t with
  | zero => rw [sm_n, sm_0, fc_0, Nat.sub_self, pw_0]; grind
  | succ t ih =>
    rw [sm_n]
    have a : sm_s (fun l => fc_f x q l * x ^ (t + 1 - l)) (t + 1) = sm_s (fun l => fc_f x q l * x ^ (t - l)) (t + 1) * x := by
      rw [← sm_mulr]
      apply sm_congr
      intro l hl
      rw [show t + 1 - l = (t - l) + 1 by omega, pw_s]; grind
    rw [a, ih, Nat.sub_self, pw_0, fc_s]; grind
theorem dc_om {F : Type} [Lean.Grind.Field F] [Lean.Grind.IsCharP F 2] {N p : Nat} {w X S : Nat → F} {M : Nat → Bool} (hS : ∀ j, j < p → S j = sm_s (fun i => w i * X i ^ j) N) (hw : ∀ i, i < N → M i = false → w i = 0) {t : Nat} (ht : t < p) : cv_c (lm_l X M (on_e : Nat → F) N) S t = sm_s (fun k => w k * lm_l X (ct_rm M k) (on_e : Nat → F) N t) N := by
  unfold cv_c
  have a : sm_s (fun l => lm_l X M (on_e : Nat → F) N l * S (t - l)) (t + 1) = sm_s (fun l => sm_s (fun k => w k * (lm_l X M (on_e : Nat → F) N l * X k ^ (t - l))) N) (t + 1) := by
    apply sm_congr
    intro l hl
    rw [hS (t - l) (by omega), ← sm_mul]
    apply sm_congr
    intro i hi
    grind
  rw [a, sm_swap]
  apply sm_congr
  intro k hk
  rw [sm_mul]
  cases p : M k with
  | false => rw [hw k hk p]; grind
  | true =>
    rw [lm_rm X M _ p N hk, fc_tel]
theorem dc_one {F : Type} [Lean.Grind.Field F] [Lean.Grind.IsCharP F 2] {X Z y : F} (h : X * y = 1) (q : 1 + Z * y = 0) : Z = X := by
  have a : Z * y = X * y := by grind
  have b : y ≠ 0 := by
    intro e
    rw [e] at h
    apply fz_1 (F := F)
    grind
  exact fz_c a b
theorem dc_top {F : Type} [Lean.Grind.Field F] [Lean.Grind.IsCharP F 2] {N p : Nat} {w X y S : Nat → F} {M : Nat → Bool} (hX : ∀ i j, i < N → j < N → X i = X j → i = j) (hxy : ∀ i, i < N → X i * y i = 1) (hS : ∀ j, j < p → S j = sm_s (fun i => w i * X i ^ j) N) (hw : ∀ i, i < N → M i = false → w i = 0) (hM : ct_c M N ≤ p) (hp : p ≤ 8) {i : Nat} (hi : i < N) (hMi : M i = true) :
    ev_l (cv_c (lm_l X M (on_e : Nat → F) N) S) p (y i) = w i * ev_l (lm_l X (ct_rm M i) (on_e : Nat → F) N) 9 (y i) := by
  have a : ev_l (cv_c (lm_l X M (on_e : Nat → F) N) S) p (y i) = sm_s (fun k => w k * ev_l (lm_l X (ct_rm M k) (on_e : Nat → F) N) p (y i)) N := by
    unfold ev_l
    have b : sm_s (fun t => cv_c (lm_l X M (on_e : Nat → F) N) S t * y i ^ t) p = sm_s (fun t => sm_s (fun k => w k * (lm_l X (ct_rm M k) (on_e : Nat → F) N t * y i ^ t)) N) p := by
      apply sm_congr
      intro t ht
      rw [dc_om hS hw ht, ← sm_mulr]
      apply sm_congr
      intro k _
      grind
    rw [b, sm_swap]
    apply sm_congr
    intro k _
    rw [sm_mul]
  rw [a, sm_one hi]
  · have c := ct_rmc hi hMi
    rw [ev_ext (n := p) (m := 9) (by omega) (fun t h1 _ => lm_dg1 N t (by omega))]
  · intro k hk hn
    cases q : M k with
    | false => rw [hw k hk q]; grind
    | true =>
      have c := ct_rmc hk q
      rw [← ev_ext (n := p) (m := 9) (by omega) (fun t h1 _ => lm_dg1 N t (by omega))]
      rw [lm_ev (k := i) hi (by rw [ct_rmn M (by omega)]; exact hMi) (by omega), hxy i hi]
      grind
/-- the derivative by the odd coefficients -/
def sl_v {F : Type} [Lean.Grind.Field F] (L : Nat → F) (y : F) : F := (((0 * (y * y) + L 7) * (y * y) + L 5) * (y * y) + L 3) * (y * y) + L 1
theorem dc_slope {F : Type} [Lean.Grind.Field F] [Lean.Grind.IsCharP F 2] {X y : F} (h : X * y = 1) {A : Nat → F} (h8 : A 8 = 0) : sl_v (fc_f X A) y = X * ev_l A 9 y := by
  unfold sl_v
  rw [ev_n _ 8, ev_n _ 7, ev_n _ 6, ev_n _ 5, ev_n _ 4, ev_n _ 3, ev_n _ 2, ev_n _ 1, ev_n _ 0, ev_0, h8, fc_s _ _ 6, fc_s _ _ 4, fc_s _ _ 2, fc_s _ _ 0]
  generalize A 0 = a0
  generalize A 1 = a1
  generalize A 2 = a2
  generalize A 3 = a3
  generalize A 4 = a4
  generalize A 5 = a5
  generalize A 6 = a6
  generalize A 7 = a7
  have e1 : X * (a1 * y ^ 1) = a1 := by grind
  have e3 : X * (a3 * y ^ 3) = a3 * (y * y) := by grind
  have e5 : X * (a5 * y ^ 5) = a5 * (y * y) * (y * y) := by grind
  have e7 : X * (a7 * y ^ 7) = a7 * (y * y) * (y * y) * (y * y) := by grind
  have s : X * (0 + a0 * y ^ 0 + a1 * y ^ 1 + a2 * y ^ 2 + a3 * y ^ 3 + a4 * y ^ 4 + a5 * y ^ 5 + a6 * y ^ 6 + a7 * y ^ 7 + 0 * y ^ 8) = X * a0 + X * (a1 * y ^ 1) + X * (a2 * y ^ 2) + X * (a3 * y ^ 3) + X * (a4 * y ^ 4) + X * (a5 * y ^ 5) + X * (a6 * y ^ 6) + X * (a7 * y ^ 7) := by
    rw [pw_0]; grind
  rw [s, e1, e3, e5, e7]
  grind
/-- Forney's value -/
def fo_v {F : Type} [Lean.Grind.Field F] (L Om : Nat → F) (p : Nat) (X y B : F) : F := ev_l Om p y * (sl_v L y)⁻¹ * (X * B⁻¹)
theorem dc_fo {F : Type} [Lean.Grind.Field F] [Lean.Grind.IsCharP F 2] {N p : Nat} {e B X y S : Nat → F} {M : Nat → Bool} (hX : ∀ i j, i < N → j < N → X i = X j → i = j) (hxy : ∀ i, i < N → X i * y i = 1) (hB : ∀ i, i < N → B i ≠ 0) (hS : ∀ j, j < p → S j = sm_s (fun i => e i * B i * X i ^ j) N) (hw : ∀ i, i < N → M i = false → e i = 0) (hM : ct_c M N ≤ p) (hp : p ≤ 8) {i : Nat} (hi : i < N) (hMi : M i = true) :
    fo_v (lm_l X M (on_e : Nat → F) N) (cv_c (lm_l X M (on_e : Nat → F) N) S) p (X i) (y i) (B i) = e i := by
  unfold fo_v
  rw [dc_top hX hxy hS (fun i hi h => by rw [hw i hi h]; grind) hM hp hi hMi]
  have c := ct_rmc hi hMi
  have a8 : lm_l X (ct_rm M i) (on_e : Nat → F) N 8 = 0 := lm_dg1 N 8 (by omega)
  have sl : sl_v (lm_l X M (on_e : Nat → F) N) (y i) = X i * ev_l (lm_l X (ct_rm M i) (on_e : Nat → F) N) 9 (y i) := by
    rw [lm_rm X M _ hMi N hi]
    exact dc_slope (hxy i hi) a8
  have an : ev_l (lm_l X (ct_rm M i) (on_e : Nat → F) N) 9 (y i) ≠ 0 := by
    apply lm_ne N
    · intro k hk hr q
      have e := dc_one (hxy i hi) q
      have := hX k i hk hi e
      rw [this, ct_rmk] at hr
      exact nomatch hr
    · omega
  rw [sl]
  generalize ev_l (lm_l X (ct_rm M i) (on_e : Nat → F) N) 9 (y i) = a at *
  have hx : X i ≠ 0 := by
    intro q
    have := hxy i hi
    rw [q] at this
    apply fz_1 (F := F)
    grind
  have u := fz_i (fz_m hx an)
  have v := fz_i (hB i hi)
  generalize (X i * a)⁻¹ = U at *
  generalize (B i)⁻¹ = V at *
  have : e i * B i * a * U * (X i * V) = e i * (X i * a * U) * (B i * V) := by grind
  rw [this, u, v]; grind

/-! the decoder as a function of the received word -/
/-- the syndromes of a word -/
def sy_s {F : Type} [Lean.Grind.Field F] (N : Nat) (B X w : Nat → F) (j : Nat) : F := sm_s (fun i => w i * B i * X i ^ j) N
/-- the cells with flag off that change -/
noncomputable def ch_b {F : Type} [Lean.Grind.Field F] (fl : Nat → Bool) (e : Nat → F) : Nat → Bool := fun i => !fl i && nz_b (e i)
/-- e explains the syndromes within the reach -/
def gd_e {F : Type} [Lean.Grind.Field F] (N p : Nat) (B X S : Nat → F) (fl : Nat → Bool) (e : Nat → F) : Prop := 2 * ct_c (ch_b fl e) N + ct_c fl N ≤ p ∧ ∀ j, j < p → sy_s N B X e j = S j
theorem gd_u {F : Type} [Lean.Grind.Field F] [Lean.Grind.IsCharP F 2] {N p : Nat} {B X S : Nat → F} {fl : Nat → Bool} {e e' : Nat → F} (hX : ∀ i j, i < N → j < N → X i = X j → i = j) (hB : ∀ i, i < N → B i ≠ 0) (h : gd_e N p B X S fl e) (h' : gd_e N p B X S fl e') : ∀ i, i < N → e i = e' i := by
  have key := vd_sp hX p (fun i => (e i + e' i) * B i) (by
    have a : ct_c (fun i => nz_b ((e i + e' i) * B i)) N ≤ ct_c (fun i => fl i || (ch_b fl e i || ch_b fl e' i)) N := by
      apply ct_sub
      intro i _ hi
      have hi := nz_t.mp hi
      cases f : fl i with
      | true => rfl
      | false =>
        show (false || (ch_b fl e i || ch_b fl e' i)) = true
        unfold ch_b
        rw [f]
        cases q : nz_b (e i) with
        | true => simp
        | false =>
          cases r : nz_b (e' i) with
          | true => simp
          | false =>
            exfalso
            apply hi
            rw [nz_f.mp q, nz_f.mp r]; grind
    have b := ct_orle fl (fun i => ch_b fl e i || ch_b fl e' i) N
    have c := ct_orle (ch_b fl e) (ch_b fl e') N
    have d := h.1
    have d' := h'.1
    omega) (by
    intro j hj
    have a := h.2 j hj
    have b := h'.2 j hj
    unfold sy_s at a b
    have : sm_s (fun i => (e i + e' i) * B i * X i ^ j) N = sm_s (fun i => e i * B i * X i ^ j) N + sm_s (fun i => e' i * B i * X i ^ j) N := by
      rw [← sm_add]
      apply sm_congr
      intro i _
      grind
    rw [this, a, b]; grind)
  intro i hi
  exact c2_e (fz_0 (key i hi) (hB i hi))
/-- the erasure locator, the register, the located cells, the locator, the changes -/
noncomputable def xd_bm {F : Type} [Lean.Grind.Field F] (N p : Nat) (X S : Nat → F) (fl : Nat → Bool) : Nat × Nat × F × (Nat → F) × (Nat → F) :=
  bm_st (fun n => cv_c (lm_l X fl (on_e : Nat → F) N) S (ct_c fl N + n)) (p - ct_c fl N)
noncomputable def xd_lc {F : Type} [Lean.Grind.Field F] (y : Nat → F) (fl : Nat → Bool) (s : Nat × Nat × F × (Nat → F) × (Nat → F)) : Nat → Bool := fun i => !fl i && !nz_b (ev_l s.2.2.2.1 (s.1 + 1) (y i))
def xd_ch {F : Type} [Lean.Grind.Field F] (p : Nat) (B X y S : Nat → F) (fl lc : Nat → Bool) (L : Nat → F) : Nat → F := fun i => if (fl i || lc i) = true then fo_v L (cv_c L S) p (X i) (y i) (B i) else 0
theorem xd_ok {F : Type} [Lean.Grind.Field F] [Lean.Grind.IsCharP F 2] {N p : Nat} {B X y S : Nat → F} {fl : Nat → Bool} {e : Nat → F} (hX : ∀ i j, i < N → j < N → X i = X j → i = j) (hY : ∀ i j, i < N → j < N → y i = y j → i = j) (h0 : ∀ i, i < N → X i ≠ 0) (hxy : ∀ i, i < N → X i * y i = 1) (hB : ∀ i, i < N → B i ≠ 0) (hp : p ≤ 8) (hs : ct_c fl N ≤ p) (h : gd_e N p B X S fl e) :
    (xd_bm N p X S fl).1 = ct_c (ch_b fl e) N ∧ (∀ i, i < N → xd_lc y fl (xd_bm N p X S fl) i = ch_b fl e i) ∧
    ∀ i, i < N → xd_ch p B X y S fl (xd_lc y fl (xd_bm N p X S fl)) (lm_l X (xd_lc y fl (xd_bm N p X S fl)) (lm_l X fl (on_e : Nat → F) N) N) i = e i := by
  have hS : ∀ j, j < p → S j = sm_s (fun i => e i * B i * X i ^ j) N := fun j hj => (h.2 j hj).symm
  have hg : ∀ i, i < N → (ev_l (lm_l X fl (on_e : Nat → F) N) 9 (y i) = 0 ↔ fl i = true) := by
    intro i hi
    constructor
    · intro q
      apply Classical.byContradiction
      intro f
      refine lm_ne N ?_ (by omega) q
      intro k hk hf z
      have := hX k i hk hi (dc_one (hxy i hi) z)
      rw [this] at hf
      exact f hf
    · intro f
      rw [lm_ev hi f (by omega), hxy i hi]; grind
  have cn : ∀ i, i < N → nz_b (e i * B i * ev_l (lm_l X fl (on_e : Nat → F) N) 9 (y i) * X i ^ ct_c fl N) = ch_b fl e i := by
    intro i hi
    unfold ch_b
    cases f : fl i with
    | true => rw [(hg i hi).mpr f]; show _ = false; apply nz_f.mpr; grind
    | false =>
      have g : ev_l (lm_l X fl (on_e : Nat → F) N) 9 (y i) ≠ 0 := fun q => by
        have := (hg i hi).mp q
        rw [f] at this
        exact nomatch this
      show _ = nz_b (e i)
      cases q : nz_b (e i) with
      | false => rw [nz_f.mp q]; apply nz_f.mpr; grind
      | true => exact nz_t.mpr (fz_m (fz_m (fz_m (nz_t.mp q) (hB i hi)) g) (fz_p (h0 i hi) _))
  have cc : ct_c (fun i => nz_b (e i * B i * ev_l (lm_l X fl (on_e : Nat → F) N) 9 (y i) * X i ^ ct_c fl N)) N = ct_c (ch_b fl e) N := ct_congr cn
  have bm := bm_ok (c := fun i => e i * B i * ev_l (lm_l X fl (on_e : Nat → F) N) 9 (y i) * X i ^ ct_c fl N) (md := fun n => cv_c (lm_l X fl (on_e : Nat → F) N) S (ct_c fl N + n)) (K := p - ct_c fl N) hX hY h0 hxy (by omega) (by
    intro m hm
    show cv_c (lm_l X fl (on_e : Nat → F) N) S (ct_c fl N + m) = _
    rw [dc_md hxy hS (s := ct_c fl N) (by omega) (by omega) (by omega) (fun l hl => lm_dg1 N l hl)]
    apply sm_congr
    intro i _
    rw [pw_a]; grind) (by
    rw [cc]
    have := h.1
    omega)
  rw [cc] at bm
  obtain ⟨b1, b2⟩ := bm
  have l1 : ∀ i, i < N → xd_lc y fl (xd_bm N p X S fl) i = ch_b fl e i := by
    intro i hi
    have a := b2 i hi
    rw [cn i hi] at a
    unfold xd_lc xd_bm
    rw [← a]
    unfold ch_b
    cases fl i <;> simp
  refine ⟨b1, l1, ?_⟩
  intro i hi
  have dis : ∀ i, i < N → fl i = true → xd_lc y fl (xd_bm N p X S fl) i = false := by
    intro i _ f
    unfold xd_lc
    rw [f]; rfl
  rw [lm_or X fl _ _ N dis]
  unfold xd_ch
  cases q : (fl i || xd_lc y fl (xd_bm N p X S fl) i) with
  | true =>
    rw [if_pos rfl]
    refine dc_fo hX hxy hB hS ?_ ?_ hp hi q
    · intro k hk hn
      have hn : (fl k || xd_lc y fl (xd_bm N p X S fl) k) = false := hn
      rw [l1 k hk] at hn
      unfold ch_b at hn
      cases f : fl k with
      | true => rw [f] at hn; exact nomatch hn
      | false =>
        rw [f] at hn
        exact nz_f.mp hn
    · rw [ct_or dis, ct_congr l1]
      have := h.1
      omega
  | false =>
    rw [if_neg (fun w => nomatch w)]
    rw [l1 i hi] at q
    unfold ch_b at q
    cases f : fl i with
    | true => rw [f] at q; exact nomatch q
    | false =>
      rw [f] at q
      exact (nz_f.mp q).symm
end
section
/-! elimination without division, back substitution -/
def el_s {F : Type} [Lean.Grind.Field F] (n d : Nat) (R : Nat → Nat → F) : Nat → Nat → F := fun r c => if d < r ∧ d ≤ c ∧ c ≤ n then R r c * R d d + R d c * R r d else R r c
def el_l {F : Type} [Lean.Grind.Field F] (n : Nat) (R : Nat → Nat → F) : Nat → (Nat → Nat → F)
  | 0 => R
  | d + 1 => el_s n d (el_l n R d)
/-- a row against a vector -/
def el_r {F : Type} [Lean.Grind.Field F] (n : Nat) (R : Nat → Nat → F) (y : Nat → F) (r : Nat) : F := sm_s (fun c => R r c * y c) (n + 1)
theorem el_rho {F : Type} [Lean.Grind.Field F] {n d : Nat} {R : Nat → Nat → F} (hz : ∀ c, c < d → ∀ r, c < r → R r c = 0) (y : Nat → F) {r : Nat} (h : d < r) : el_r n (el_s n d R) y r = el_r n R y r * R d d + el_r n R y d * R r d := by
  unfold el_r
  rw [← sm_mulr, ← sm_mulr, ← sm_add]
  apply sm_congr
  intro c hc
  unfold el_s
  by_cases q : d ≤ c
  · rw [if_pos ⟨h, q, by omega⟩]; grind
  · rw [if_neg (fun w => q w.2.1), hz c (by omega) r (by omega), hz c (by omega) d (by omega)]; grind
theorem el_rho' {F : Type} [Lean.Grind.Field F] {n d : Nat} {R : Nat → Nat → F} (y : Nat → F) {r : Nat} (h : ¬ d < r) : el_r n (el_s n d R) y r = el_r n R y r := by
  unfold el_r
  apply sm_congr
  intro c _
  unfold el_s
  rw [if_neg (fun w => h w.1)]
theorem el_iff {F : Type} [Lean.Grind.Field F] {n d : Nat} {R : Nat → Nat → F} (hz : ∀ c, c < d → ∀ r, c < r → R r c = 0) (hp : R d d ≠ 0) (y : Nat → F) (m : Nat) : (∀ r, r < m → el_r n (el_s n d R) y r = 0) ↔ (∀ r, r < m → el_r n R y r = 0) := by
  constructor
  · intro h r hr
    by_cases q : d < r
    · have a := h r hr
      have b := h d (by omega)
      rw [el_rho' y (by omega)] at b
      rw [el_rho hz y q, b] at a
      refine fz_0 (b := R d d) ?_ hp
      grind
    · have a := h r hr
      rw [el_rho' y q] at a
      exact a
  · intro h r hr
    by_cases q : d < r
    · rw [el_rho hz y q, h r hr, h d (by omega)]; grind
    · rw [el_rho' y q]; exact h r hr
theorem sm_upd {F : Type} [Lean.Grind.Field F] (R x : Nat → F) (v : F) {n k : Nat} (h : k < n) : sm_s (fun c => R c * (if c = k then v else x c)) n = sm_s (fun c => R c * x c) n + R k * (v - x k) := by
  have a : sm_s (fun c => R c * (if c = k then v else x c)) n = sm_s (fun c => R c * x c) n + sm_s (fun c => if c = k then R k * (v - x k) else 0) n := by
    rw [← sm_add]
    apply sm_congr
    intro c _
    by_cases q : c = k
    · rw [if_pos q, if_pos q, q]; grind
    · rw [if_neg q, if_neg q]; grind
  rw [a, sm_one (f := fun c => if c = k then R k * (v - x k) else 0) h (fun i _ hn => if_neg hn), if_pos rfl]
theorem bs_ex {F : Type} [Lean.Grind.Field F] {n d : Nat} {R : Nat → Nat → F} (hd : d ≤ n) (hz : ∀ c, c < d → ∀ r, c < r → R r c = 0) (hp : ∀ r, r < d → R r r ≠ 0) (x0 : Nat → F) : ∀ k, k ≤ d → ∃ x : Nat → F, (∀ c, d ≤ c → x c = x0 c) ∧ ∀ r, d - k ≤ r → r < d → el_r n R x r = 0 := by
  intro k
  induction k with
  | zero => intro _; exact ⟨x0, fun _ _ => rfl, fun r h1 h2 => absurd h2 (by omega)⟩
  | succ k ih =>
    intro hk
    obtain ⟨x, hx, h⟩ := ih (by omega)
    refine ⟨fun c => if c = d - (k + 1) then x (d - (k + 1)) - el_r n R x (d - (k + 1)) * (R (d - (k + 1)) (d - (k + 1)))⁻¹ else x c, ?_, ?_⟩
    · intro c hc
      show (if c = d - (k + 1) then _ else x c) = _
      rw [if_neg (by omega)]
      exact hx c hc
    · intro r h1 h2
      unfold el_r
      rw [sm_upd _ _ _ (show d - (k + 1) < n + 1 by omega)]
      by_cases q : r = d - (k + 1)
      · subst q
        have u := fz_i (hp (d - (k + 1)) (by omega))
        generalize sm_s (fun c => R (d - (k + 1)) c * x c) (n + 1) = A
        generalize (R (d - (k + 1)) (d - (k + 1)))⁻¹ = U at *
        have : R (d - (k + 1)) (d - (k + 1)) * (x (d - (k + 1)) - A * U - x (d - (k + 1))) = - (A * (R (d - (k + 1)) (d - (k + 1)) * U)) := by grind
        rw [this, u]; grind
      · have a := h r (by omega) h2
        unfold el_r at a
        rw [a, hz (d - (k + 1)) (by omega) r (by omega)]; grind
/-- no combination of the first columns vanishes in the first rows -/
def el_NS {F : Type} [Lean.Grind.Field F] (n : Nat) (R : Nat → Nat → F) : Prop := ∀ d, d < n → ∀ x : Nat → F, (∀ c, d < c → x c = 0) → (∀ r, r ≤ d → el_r n R x r = 0) → x d = 0
theorem el_inv {F : Type} [Lean.Grind.Field F] [Lean.Grind.IsCharP F 2] {n : Nat} {R : Nat → Nat → F} (hN : el_NS n R) : ∀ d, d ≤ n → (∀ c, c < d → ∀ r, c < r → el_l n R d r c = 0) ∧ (∀ c, c < d → el_l n R d c c ≠ 0) ∧ (∀ (y : Nat → F) (m : Nat), (∀ r, r < m → el_r n (el_l n R d) y r = 0) ↔ (∀ r, r < m → el_r n R y r = 0)) := by
  intro d
  induction d with
  | zero => intro _; exact ⟨fun c hc => absurd hc (by omega), fun c hc => absurd hc (by omega), fun _ _ => Iff.rfl⟩
  | succ d ih =>
    intro hd
    obtain ⟨hz, hp, hi⟩ := ih (by omega)
    have pv : el_l n R d d d ≠ 0 := by
      intro q
      obtain ⟨x, hx, h⟩ := bs_ex (n := n) (by omega) hz hp (fun c => if c = d then 1 else 0) d (Nat.le_refl _)
      have xd : x d = 1 := by rw [hx d (Nat.le_refl _)]; exact if_pos rfl
      have xc : ∀ c, d < c → x c = 0 := fun c hc => by rw [hx c (by omega)]; exact if_neg (by omega)
      have a : ∀ r, r < d + 1 → el_r n (el_l n R d) x r = 0 := by
        intro r hr
        by_cases e : r = d
        · rw [e]
          unfold el_r
          apply sm_z
          intro c _
          by_cases c1 : c < d
          · rw [hz c c1 d c1]; grind
          · by_cases c2 : c = d
            · rw [c2, q]; grind
            · rw [xc c (by omega)]; grind
        · exact h r (by omega) (by omega)
      have b := (hi x (d + 1)).mp a
      have c := hN d (by omega) x xc (fun r hr => b r (by omega))
      rw [xd] at c
      exact fz_1 c
    refine ⟨?_, ?_, ?_⟩
    · intro c hc r hr
      show el_s n d (el_l n R d) r c = 0
      unfold el_s
      by_cases e : c = d
      · subst e
        rw [if_pos ⟨hr, Nat.le_refl _, by omega⟩]
        grind
      · rw [if_neg (fun w => by omega)]
        exact hz c (by omega) r hr
    · intro c hc
      show el_s n d (el_l n R d) c c ≠ 0
      unfold el_s
      rw [if_neg (fun w => by omega)]
      by_cases e : c = d
      · rw [e]; exact pv
      · exact hp c (by omega)
    · intro y m
      show (∀ r, r < m → el_r n (el_s n d (el_l n R d)) y r = 0) ↔ _
      rw [el_iff hz pv y m]
      exact hi y m

theorem el_r1 {F : Type} [Lean.Grind.Field F] (n : Nat) (R : Nat → Nat → F) (v : Nat → F) (r : Nat) : el_r n R (fun c => if c < n then v c else 1) r = sm_s (fun c => R r c * v c) n + R r n := by
  unfold el_r
  rw [sm_n]
  have a : sm_s (fun c => R r c * (if c < n then v c else 1)) n = sm_s (fun c => R r c * v c) n := sm_congr (fun c hc => by rw [if_pos hc])
  have b : (if n < n then v n else 1) = (1 : F) := if_neg (by omega)
  show sm_s (fun c => R r c * (if c < n then v c else 1)) n + R r n * (if n < n then v n else 1) = _
  rw [a, b]; grind
theorem so_no {F : Type} [Lean.Grind.Field F] [Lean.Grind.IsCharP F 2] {n p : Nat} {R : Nat → Nat → F} (hN : el_NS n R) {r : Nat} (hr : n ≤ r) (hrp : r < p) (h : el_l n R n r n ≠ 0) (y : Nat → F) : ¬ ∀ j, j < p → sm_s (fun c => R j c * y c) n = R j n := by
  intro q
  obtain ⟨hz, _, hi⟩ := el_inv hN n (Nat.le_refl _)
  have a : ∀ j, j < p → el_r n R (fun c => if c < n then y c else 1) j = 0 := by
    intro j hj
    rw [el_r1, q j hj]; grind
  have b := (hi _ p).mpr a r hrp
  rw [el_r1, sm_z (fun c hc => by rw [hz c hc r (by omega)]; grind)] at b
  apply h
  grind
theorem so_yes {F : Type} [Lean.Grind.Field F] [Lean.Grind.IsCharP F 2] {n p : Nat} {R : Nat → Nat → F} (hN : el_NS n R) (hn : n ≤ p) (h : ∀ r, n ≤ r → r < p → el_l n R n r n = 0) (v : Nat → F) (hv : ∀ u, u < n → el_l n R n u u * v u = el_l n R n u n + sm_s (fun k => el_l n R n u (u + 1 + k) * v (u + 1 + k)) (n - 1 - u)) : ∀ j, j < p → sm_s (fun c => R j c * v c) n = R j n := by
  obtain ⟨hz, _, hi⟩ := el_inv hN n (Nat.le_refl _)
  have a : ∀ r, r < p → el_r n (el_l n R n) (fun c => if c < n then v c else 1) r = 0 := by
    intro r hr
    rw [el_r1]
    by_cases q : n ≤ r
    · rw [h r q hr, sm_z (fun c hc => by rw [hz c hc r (by omega)]; grind)]; grind
    · have e : sm_s (fun c => el_l n R n r c * v c) n = el_l n R n r r * v r + sm_s (fun k => el_l n R n r (r + 1 + k) * v (r + 1 + k)) (n - 1 - r) := by
        rw [show n = (r + 1) + (n - 1 - r) by omega, sm_split, sm_n, sm_z (fun c hc => by rw [← show n = (r + 1) + (n - 1 - r) by omega, hz c (by omega) r hc]; grind), ← show n = (r + 1) + (n - 1 - r) by omega]
        grind
      rw [e, hv r (by omega)]; grind
  have b := (hi _ p).mp a
  intro j hj
  have c := b j hj
  rw [el_r1] at c
  exact c2_e c
theorem ct_bd {P : Nat → Bool} {m : Nat} : ∀ {n : Nat}, (∀ i, i < n → P i = true → i < m) → ct_c P n ≤ m := by
  intro n
  induction n with
  | zero => intro _; rw [ct_0]; omega
  | succ n ih =>
    intro h
    cases q : P n with
    | true =>
      have := h n (by omega) q
      have := ct_le P (n + 1)
      omega
    | false => rw [ct_nf q]; exact ih (fun i hi => h i (by omega))
theorem so_NS {F : Type} [Lean.Grind.Field F] {n : Nat} {B X : Nat → F} (hX : ∀ i j, i < n → j < n → X i = X j → i = j) (hB : ∀ i, i < n → B i ≠ 0) {R : Nat → Nat → F} (hR : ∀ j c, j < n → c < n → R j c = B c * X c ^ j) : el_NS n R := by
  intro d hd x hx h
  have key := vd_sp hX (d + 1) (fun c => x c * B c) (by
    apply ct_bd
    intro i _ hi
    have hi := nz_t.mp hi
    apply Classical.byContradiction
    intro q
    apply hi
    rw [hx i (by omega)]; grind) (by
    intro j hj
    have a := h j (by omega)
    unfold el_r at a
    rw [sm_n, hx n hd] at a
    have b : sm_s (fun c => x c * B c * X c ^ j) n = sm_s (fun c => R j c * x c) n := sm_congr (fun c hc => by rw [hR j c (by omega) hc]; grind)
    rw [b]
    grind)
  exact fz_0 (key d hd) (hB d hd)
theorem rx_sum {F : Type} [Lean.Grind.Field F] (g : Nat → F) (M : Nat → Bool) : ∀ N, sm_s g (ct_c M N) = sm_s (fun i => if M i = true then g (ct_c M i) else 0) N := by
  intro N
  induction N with
  | zero => rfl
  | succ N ih =>
    rw [sm_n]
    cases q : M N with
    | true => rw [ct_nt q, sm_n, ih, if_pos rfl]
    | false => rw [ct_nf q, ih, if_neg (fun w => nomatch w)]; grind
theorem ct_sur {M : Nat → Bool} {u : Nat} : ∀ {N : Nat}, u < ct_c M N → ∃ i, i < N ∧ M i = true ∧ ct_c M i = u := by
  intro N
  induction N with
  | zero => intro h; rw [ct_0] at h; omega
  | succ N ih =>
    intro h
    cases q : M N with
    | true =>
      rw [ct_nt q] at h
      by_cases e : u = ct_c M N
      · exact ⟨N, by omega, q, e.symm⟩
      · obtain ⟨i, a, b⟩ := ih (by omega)
        exact ⟨i, by omega, b⟩
    | false =>
      rw [ct_nf q] at h
      obtain ⟨i, a, b⟩ := ih h
      exact ⟨i, by omega, b⟩
/-- pl lists the cells of M -/
def pl_P (N : Nat) (M : Nat → Bool) (pl : Nat → Nat) : Prop := ∀ i, i < N → M i = true → pl (ct_c M i) = i
theorem pl_inj {N : Nat} {M : Nat → Bool} {pl : Nat → Nat} (h : pl_P N M pl) {u v : Nat} (hu : u < ct_c M N) (hv : v < ct_c M N) (e : pl u = pl v) : u = v := by
  obtain ⟨i, a, b, rfl⟩ := ct_sur hu
  obtain ⟨j, c, d, rfl⟩ := ct_sur hv
  rw [h i a b, h j c d] at e
  rw [e]
theorem pl_lt {N : Nat} {M : Nat → Bool} {pl : Nat → Nat} (h : pl_P N M pl) {u : Nat} (hu : u < ct_c M N) : pl u < N ∧ M (pl u) = true := by
  obtain ⟨i, a, b, rfl⟩ := ct_sur hu
  rw [h i a b]
  exact ⟨a, b⟩
theorem pl_sum {F : Type} [Lean.Grind.Field F] {N : Nat} {M : Nat → Bool} {pl : Nat → Nat} (h : pl_P N M pl) (f : Nat → F) (e : Nat → F) (he : ∀ i, i < N → M i = false → e i = 0) : sm_s (fun u => f (pl u) * e (pl u)) (ct_c M N) = sm_s (fun i => f i * e i) N := by
  rw [rx_sum]
  apply sm_congr
  intro i hi
  cases q : M i with
  | true => rw [if_pos rfl, h i hi q]
  | false => rw [if_neg (fun w => nomatch w), he i hi q]; grind
/-- the vector on the cells -/
def pl_e {F : Type} [Lean.Grind.Field F] (M : Nat → Bool) (v : Nat → F) : Nat → F := fun i => if M i = true then v (ct_c M i) else 0
theorem pl_ez {F : Type} [Lean.Grind.Field F] {M : Nat → Bool} {v : Nat → F} {i : Nat} (h : M i = false) : pl_e M v i = 0 := if_neg (by rw [h]; exact fun w => nomatch w)
theorem pl_ev {F : Type} [Lean.Grind.Field F] {N : Nat} {M : Nat → Bool} {pl : Nat → Nat} (h : pl_P N M pl) (v : Nat → F) {u : Nat} (hu : u < ct_c M N) : pl_e M v (pl u) = v u := by
  obtain ⟨i, a, b, rfl⟩ := ct_sur hu
  rw [h i a b]
  exact if_pos b
end
section
/-! the field's elements as ints: what the two classes' arithmetic needs of the field -/
theorem ex_or (a b : Nat) : nI a ||| nI b = nI (a ||| b) := by
  apply Int32.toBitVec_inj.1
  show BitVec.ofNat 32 a ||| BitVec.ofNat 32 b = BitVec.ofNat 32 (a ||| b)
  apply BitVec.eq_of_getLsbD_eq
  intro i hi
  simp [hi]
/-- the reference's product: first the polynomial product, then the reduction, from the bit 14 on -/
def ym_1 (a c : Nat) : Nat → Nat
  | 0 => 0
  | t + 1 => ym_1 a c t ^^^ (if c.testBit t = true then a <<< t else 0)
def ym_2 (x : Nat) : Nat → Nat
  | 0 => x
  | k + 1 => if (ym_2 x k).testBit (14 - k) = true then ym_2 x k ^^^ (285 <<< (6 - k)) else ym_2 x k
/-- the component's step from power to power -/
def ym_x (n : Nat) : Nat := if (2 * n) &&& 256 = 0 then 2 * n else (2 * n) ^^^ 285
def em_P {F : Type} [Lean.Grind.Field F] [Lean.Grind.IsCharP F 2] (em : F → Int32) (al : F) : Prop :=
  (∀ a b, em (a + b) = em a ^^^ em b) ∧ (∀ a, ∃ n, n < 256 ∧ em a = nI n) ∧ (∀ a b, em a = em b → a = b) ∧ (∀ n, n < 256 → ∃ a, em a = nI n) ∧ (em 0 = 0 ∧ em 1 = 1 ∧ em al = 2) ∧
  al ^ 255 = 1 ∧ (∀ i j, i < 255 → j < 255 → al ^ i = al ^ j → i = j) ∧ (∀ a, a ≠ 0 → ∃ i, i < 255 ∧ a = al ^ i) ∧
  (∀ a n, n < 256 → em a = nI n → em (a * al) = nI (ym_x n)) ∧ (∀ a b n m, n < 256 → m < 256 → em a = nI n → em b = nI m → em (a * b) = nI (ym_2 (ym_1 n m 8) 7))
theorem em_add {F : Type} [Lean.Grind.Field F] [Lean.Grind.IsCharP F 2] {em : F → Int32} {al : F} (E : em_P em al) (a b : F) : em (a + b) = em a ^^^ em b := E.1 a b
theorem em_rng {F : Type} [Lean.Grind.Field F] [Lean.Grind.IsCharP F 2] {em : F → Int32} {al : F} (E : em_P em al) (a : F) : ∃ n, n < 256 ∧ em a = nI n := E.2.1 a
theorem em_inj {F : Type} [Lean.Grind.Field F] [Lean.Grind.IsCharP F 2] {em : F → Int32} {al : F} (E : em_P em al) {a b : F} (h : em a = em b) : a = b := E.2.2.1 a b h
theorem em_sur {F : Type} [Lean.Grind.Field F] [Lean.Grind.IsCharP F 2] {em : F → Int32} {al : F} (E : em_P em al) {n : Nat} (h : n < 256) : ∃ a, em a = nI n := E.2.2.2.1 n h
theorem em_0 {F : Type} [Lean.Grind.Field F] [Lean.Grind.IsCharP F 2] {em : F → Int32} {al : F} (E : em_P em al) : em 0 = 0 := E.2.2.2.2.1.1
theorem em_1 {F : Type} [Lean.Grind.Field F] [Lean.Grind.IsCharP F 2] {em : F → Int32} {al : F} (E : em_P em al) : em 1 = 1 := E.2.2.2.2.1.2.1
theorem em_2 {F : Type} [Lean.Grind.Field F] [Lean.Grind.IsCharP F 2] {em : F → Int32} {al : F} (E : em_P em al) : em al = 2 := E.2.2.2.2.1.2.2
theorem em_255 {F : Type} [Lean.Grind.Field F] [Lean.Grind.IsCharP F 2] {em : F → Int32} {al : F} (E : em_P em al) : al ^ 255 = 1 := E.2.2.2.2.2.1
theorem em_ai {F : Type} [Lean.Grind.Field F] [Lean.Grind.IsCharP F 2] {em : F → Int32} {al : F} (E : em_P em al) {i j : Nat} (hi : i < 255) (hj : j < 255) (h : al ^ i = al ^ j) : i = j := E.2.2.2.2.2.2.1 i j hi hj h
theorem em_log {F : Type} [Lean.Grind.Field F] [Lean.Grind.IsCharP F 2] {em : F → Int32} {al : F} (E : em_P em al) {a : F} (h : a ≠ 0) : ∃ i, i < 255 ∧ a = al ^ i := E.2.2.2.2.2.2.2.1 a h
theorem em_x {F : Type} [Lean.Grind.Field F] [Lean.Grind.IsCharP F 2] {em : F → Int32} {al : F} (E : em_P em al) {a : F} {n : Nat} (hn : n < 256) (h : em a = nI n) : em (a * al) = nI (ym_x n) := E.2.2.2.2.2.2.2.2.1 a n hn h
theorem em_m {F : Type} [Lean.Grind.Field F] [Lean.Grind.IsCharP F 2] {em : F → Int32} {al : F} (E : em_P em al) {a b : F} {n m : Nat} (hn : n < 256) (hm : m < 256) (h : em a = nI n) (h2 : em b = nI m) : em (a * b) = nI (ym_2 (ym_1 n m 8) 7) := E.2.2.2.2.2.2.2.2.2 a b n m hn hm h h2
theorem em_z {F : Type} [Lean.Grind.Field F] [Lean.Grind.IsCharP F 2] {em : F → Int32} {al : F} (E : em_P em al) {a : F} : em a = 0 ↔ a = 0 := by
  constructor
  · intro h
    apply em_inj E
    rw [h, em_0 E]
  · intro h
    rw [h, em_0 E]
theorem em_nz {F : Type} [Lean.Grind.Field F] [Lean.Grind.IsCharP F 2] {em : F → Int32} {al : F} (E : em_P em al) {a : F} (h : a ≠ 0) : ¬ em a = 0 := fun q => h ((em_z E).mp q)
theorem em_zb {F : Type} [Lean.Grind.Field F] [Lean.Grind.IsCharP F 2] {em : F → Int32} {al : F} (E : em_P em al) {a : F} : em a = 0 ↔ nz_b a = false := (em_z E).trans nz_f.symm
theorem em_in {F : Type} [Lean.Grind.Field F] [Lean.Grind.IsCharP F 2] {em : F → Int32} {al : F} (E : em_P em al) (a : F) {N : Nat} (h : 256 ≤ N) (h2 : N < 2 ^ 31) : vp_in (em a) N := by
  obtain ⟨n, hn, e⟩ := em_rng E a
  rw [e]
  exact vp_in_nI (by omega) h2
theorem em_ge {F : Type} [Lean.Grind.Field F] [Lean.Grind.IsCharP F 2] {em : F → Int32} {al : F} (E : em_P em al) (a : F) : ¬ em a < 0 := by
  obtain ⟨n, hn, e⟩ := em_rng E a
  rw [e]
  exact nI_pos (by omega)
theorem em_lt {F : Type} [Lean.Grind.Field F] [Lean.Grind.IsCharP F 2] {em : F → Int32} {al : F} (E : em_P em al) (a : F) : em a ≤ 255 := by
  obtain ⟨n, hn, e⟩ := em_rng E a
  rw [e]
  exact nI_le (b := 255) (by omega) (by omega)
theorem em_ngt {F : Type} [Lean.Grind.Field F] [Lean.Grind.IsCharP F 2] {em : F → Int32} {al : F} (E : em_P em al) (a : F) : ¬ 255 < em a := by
  obtain ⟨n, hn, e⟩ := em_rng E a
  rw [e]
  exact nI_nlt (a := 255) (by omega) (by omega)
theorem em_ge1 {F : Type} [Lean.Grind.Field F] [Lean.Grind.IsCharP F 2] {em : F → Int32} {al : F} (E : em_P em al) {a : F} (h : a ≠ 0) : ¬ em a < 1 := by
  obtain ⟨n, hn, e⟩ := em_rng E a
  have z := em_nz E h
  rw [e] at z ⊢
  refine nI_nlt (b := 1) ?_ (by omega)
  apply Classical.byContradiction
  intro q
  apply z
  rw [show n = 0 by omega]
  rfl
/-- an int from 0 to 255 is an element -/
theorem em_of {F : Type} [Lean.Grind.Field F] [Lean.Grind.IsCharP F 2] {em : F → Int32} {al : F} (E : em_P em al) {x : Int32} (h0 : ¬ x < 0) (h : x ≤ 255) : ∃ a, x = em a := by
  obtain ⟨j, hj, rfl⟩ := nI_of2 (n := 255) (show (255 : Int32).toInt = (255 : Nat) by decide) h0 h
  obtain ⟨a, ha⟩ := em_sur E (show j < 256 by omega)
  exact ⟨a, ha.symm⟩
theorem al_nz {F : Type} [Lean.Grind.Field F] [Lean.Grind.IsCharP F 2] {em : F → Int32} {al : F} (E : em_P em al) : al ≠ 0 := by
  intro h
  have a := em_255 E
  rw [h, show (255 : Nat) = 254 + 1 from rfl, pw_s] at a
  apply fz_1 (F := F)
  grind
theorem al_md {F : Type} [Lean.Grind.Field F] [Lean.Grind.IsCharP F 2] {em : F → Int32} {al : F} (E : em_P em al) (m : Nat) : al ^ m = al ^ (m % 255) := by
  have a : m = 255 * (m / 255) + m % 255 := by omega
  have b : al ^ m = al ^ (255 * (m / 255)) * al ^ (m % 255) := by rw [← pw_a, ← a]
  rw [b, pw_p, em_255 E, pw_1]; grind
/-- alpha to any whole exponent -/
def ae_e {F : Type} [Lean.Grind.Field F] (al : F) (z : Int) : F := al ^ (z % 255).toNat
theorem ae_n {F : Type} [Lean.Grind.Field F] [Lean.Grind.IsCharP F 2] {em : F → Int32} {al : F} (E : em_P em al) (n : Nat) : ae_e al (n : Int) = al ^ n := by
  unfold ae_e
  rw [al_md E n]
  congr 1
theorem ae_a {F : Type} [Lean.Grind.Field F] [Lean.Grind.IsCharP F 2] {em : F → Int32} {al : F} (E : em_P em al) (a b : Int) : ae_e al (a + b) = ae_e al a * ae_e al b := by
  unfold ae_e
  rw [← pw_a, al_md E ((a % 255).toNat + (b % 255).toNat)]
  congr 1
  omega
theorem ae_0 {F : Type} [Lean.Grind.Field F] [Lean.Grind.IsCharP F 2] {em : F → Int32} {al : F} (E : em_P em al) : ae_e al 0 = 1 := by
  have := ae_n E 0
  rw [pw_0] at this
  exact this
theorem ae_neg {F : Type} [Lean.Grind.Field F] [Lean.Grind.IsCharP F 2] {em : F → Int32} {al : F} (E : em_P em al) (a : Int) : ae_e al a * ae_e al (-a) = 1 := by
  rw [← ae_a E, Int.add_right_neg, ae_0 E]
theorem ae_nz {F : Type} [Lean.Grind.Field F] [Lean.Grind.IsCharP F 2] {em : F → Int32} {al : F} (E : em_P em al) (a : Int) : ae_e al a ≠ 0 := fz_p (al_nz E) _
/-- the remainder that both classes reckon -/
theorem ae_r (e : Int32) : (0 ≤ e - e / 255 * 255 → e - e / 255 * 255 = nI (e.toInt % 255).toNat) ∧ (¬ 0 ≤ e - e / 255 * 255 → e - e / 255 * 255 + 255 = nI (e.toInt % 255).toNat) := by
  have t : (e - e / 255 * 255).toInt = e.toInt.tmod 255 := by
    rw [rem_toInt]
    rfl
  have b := tmod_bounds (a := e.toInt) (M := 255) (by decide)
  have m : e.toInt.tmod 255 = e.toInt % 255 ∨ e.toInt.tmod 255 + 255 = e.toInt % 255 := by
    rw [Int.tmod_eq_emod]
    by_cases q : 0 ≤ e.toInt ∨ 255 ∣ e.toInt
    · rw [if_pos q]; exact Or.inl (by omega)
    · rw [if_neg q]; exact Or.inr (by omega)
  have z : (0 : Int32).toInt = 0 := by decide
  have lt : (e.toInt % 255).toNat < 2 ^ 31 := by omega
  constructor
  · intro h
    rw [Int32.le_iff_toInt_le, z, t] at h
    apply Int32.toInt_inj.mp
    rw [t, nI_toInt lt]
    omega
  · intro h
    rw [Int32.le_iff_toInt_le, z, t] at h
    apply Int32.toInt_inj.mp
    rw [nI_toInt lt, Int32.toInt_add, t, show (255 : Int32).toInt = 255 by decide, Int.bmod_eq_of_le (by omega) (by omega)]
    omega
theorem yb_1 {n t : Nat} (hn : n < 2 ^ 31) (ht : t < 32) : ((nI n >>> (nI t &&& 31)) &&& 1) = 1 ↔ n.testBit t = true := by
  rw [pk_shrN hn _ t (s_l t ht)]
  have lt : n / 2 ^ t < 2 ^ 32 := Nat.lt_of_le_of_lt (Nat.div_le_self _ _) (by omega)
  rw [pk_andN lt 1 (by decide), Nat.testBit_eq_decide_div_mod_eq, decide_eq_true_iff]
  exact nI_eq (b := 1) (by omega) (by omega)
theorem yb_sl {n t : Nat} (ht : t < 32) (h : n * 2 ^ t < 2 ^ 32) : nI n <<< (nI t &&& 31) = nI (n <<< t) := by
  rw [pk_shlN _ t (s_l t ht) h, Nat.shiftLeft_eq]
end
section
/-! the field of 256 elements -/
theorem bx_4 (a b c d : BitVec 8) : (a ^^^ b) ^^^ (c ^^^ d) = (a ^^^ c) ^^^ (b ^^^ d) := by ac_rfl
def g8_x (a : BitVec 8) : BitVec 8 := (a <<< 1) ^^^ (if a.getLsbD 7 = true then 29#8 else 0#8)
theorem g8_xx (a b : BitVec 8) : g8_x (a ^^^ b) = g8_x a ^^^ g8_x b := by
  unfold g8_x
  rw [BitVec.shiftLeft_xor_distrib, BitVec.getLsbD_xor, bx_4]
  congr 1
  cases a.getLsbD 7 <;> cases b.getLsbD 7 <;> decide
def g8_p (a : BitVec 8) : Nat → BitVec 8
  | 0 => a
  | n + 1 => g8_x (g8_p a n)
theorem g8_px (a b : BitVec 8) (n : Nat) : g8_p (a ^^^ b) n = g8_p a n ^^^ g8_p b n := by
  induction n with
  | zero => rfl
  | succ n ih => show g8_x (g8_p (a ^^^ b) n) = _; rw [ih, g8_xx]; rfl
theorem g8_p0 (n : Nat) : g8_p 0#8 n = 0#8 := by
  induction n with
  | zero => rfl
  | succ n ih => show g8_x (g8_p 0#8 n) = _; rw [ih]; decide
theorem g8_pa (a : BitVec 8) (m n : Nat) : g8_p (g8_p a m) n = g8_p a (m + n) := by
  induction n with
  | zero => rfl
  | succ n ih => show g8_x (g8_p (g8_p a m) n) = _; rw [ih]; rfl
def g8_m (a c : BitVec 8) : Nat → BitVec 8
  | 0 => 0#8
  | t + 1 => g8_m a c t ^^^ (if c.getLsbD t = true then g8_p a t else 0#8)
theorem g8_ml (a b c : BitVec 8) (n : Nat) : g8_m (a ^^^ b) c n = g8_m a c n ^^^ g8_m b c n := by
  induction n with
  | zero => show 0#8 = 0#8 ^^^ 0#8; decide
  | succ n ih =>
    show g8_m (a ^^^ b) c n ^^^ _ = (g8_m a c n ^^^ _) ^^^ (g8_m b c n ^^^ _)
    rw [ih, bx_4 (g8_m a c n) _ (g8_m b c n) _]
    congr 1
    cases c.getLsbD n
    · show 0#8 = 0#8 ^^^ 0#8; decide
    · exact g8_px a b n
theorem g8_mr (a b c : BitVec 8) (n : Nat) : g8_m a (b ^^^ c) n = g8_m a b n ^^^ g8_m a c n := by
  induction n with
  | zero => show 0#8 = 0#8 ^^^ 0#8; decide
  | succ n ih =>
    show g8_m a (b ^^^ c) n ^^^ _ = (g8_m a b n ^^^ _) ^^^ (g8_m a c n ^^^ _)
    rw [ih, bx_4 (g8_m a b n) _ (g8_m a c n) _, BitVec.getLsbD_xor]
    congr 1
    cases b.getLsbD n <;> cases c.getLsbD n <;> simp
theorem g8_mx (a c : BitVec 8) (n : Nat) : g8_m (g8_x a) c n = g8_x (g8_m a c n) := by
  induction n with
  | zero => show 0#8 = g8_x 0#8; decide
  | succ n ih =>
    show g8_m (g8_x a) c n ^^^ _ = g8_x (g8_m a c n ^^^ _)
    rw [ih, g8_xx]
    congr 1
    cases c.getLsbD n
    · show 0#8 = g8_x 0#8; decide
    · show g8_p (g8_x a) n = g8_x (g8_p a n)
      rw [show g8_x a = g8_p a 1 from rfl, g8_pa, Nat.add_comm]
      rfl
theorem g8_mp (a c : BitVec 8) (i n : Nat) : g8_m (g8_p a i) c n = g8_p (g8_m a c n) i := by
  induction i with
  | zero => rfl
  | succ i ih => show g8_m (g8_x (g8_p a i)) c n = g8_x _; rw [g8_mx, ih]
theorem g8_of (c : BitVec 8) : BitVec.ofNat 8 c.toNat = c := by
  apply BitVec.eq_of_toNat_eq
  rw [BitVec.toNat_ofNat]
  exact Nat.mod_eq_of_lt c.isLt
theorem g8_all {P : BitVec 8 → Prop} (h : ∀ n, n < 256 → P (BitVec.ofNat 8 n)) (c : BitVec 8) : P c := by
  have := h c.toNat c.isLt
  rw [g8_of] at this
  exact this
theorem g8_m1n : ∀ n, n < 256 → g8_m 1#8 (BitVec.ofNat 8 n) 8 = BitVec.ofNat 8 n := by decide +kernel
theorem g8_m1 (c : BitVec 8) : g8_m 1#8 c 8 = c := g8_all (P := fun c => g8_m 1#8 c 8 = c) g8_m1n c
theorem g8_m0 (c : BitVec 8) : g8_m 0#8 c 8 = 0#8 := by
  have := g8_ml 0#8 0#8 c 8
  rw [BitVec.xor_self, BitVec.xor_self] at this
  exact this
theorem g8_0m (c : BitVec 8) : g8_m c 0#8 8 = 0#8 := by
  have := g8_mr c 0#8 0#8 8
  rw [BitVec.xor_self, BitVec.xor_self] at this
  exact this
def g8_t : List Nat := [0, 0, 1, 25, 2, 50, 26, 198, 3, 223, 51, 238, 27, 104, 199, 75, 4, 100, 224, 14, 52, 141, 239, 129, 28, 193, 105, 248, 200, 8, 76, 113, 5, 138, 101, 47, 225, 36, 15, 33, 53, 147, 142, 218, 240, 18, 130, 69, 29, 181, 194, 125, 106, 39, 249, 185, 201, 154, 9, 120, 77, 228, 114, 166, 6, 191, 139, 98, 102, 221, 48, 253, 226, 152, 37, 179, 16, 145, 34, 136, 54, 208, 148, 206, 143, 150, 219, 189, 241, 210, 19, 92, 131, 56, 70, 64, 30, 66, 182, 163, 195, 72, 126, 110, 107, 58, 40, 84, 250, 133, 186, 61, 202, 94, 155, 159, 10, 21, 121, 43, 78, 212, 229, 172, 115, 243, 167, 87, 7, 112, 192, 247, 140, 128, 99, 13, 103, 74, 222, 237, 49, 197, 254, 24, 227, 165, 153, 119, 38, 184, 180, 124, 17, 68, 146, 217, 35, 32, 137, 46, 55, 63, 209, 91, 149, 188, 207, 205, 144, 135, 151, 178, 220, 252, 190, 97, 242, 86, 211, 171, 20, 42, 93, 158, 132, 60, 57, 83, 71, 109, 65, 162, 31, 45, 67, 216, 183, 123, 164, 118, 196, 23, 73, 236, 127, 12, 111, 246, 108, 161, 59, 82, 41, 157, 85, 170, 251, 96, 134, 177, 187, 204, 62, 90, 203, 89, 95, 176, 156, 169, 160, 81, 11, 245, 22, 235, 122, 117, 44, 215, 79, 174, 213, 233, 230, 231, 173, 232, 116, 214, 244, 234, 168, 80, 88, 175]
def g8_l (a : BitVec 8) : Nat := g8_t.getD a.toNat 0
theorem g8_ln : ∀ n, n < 256 → (n = 0 ∨ g8_t.getD n 0 < 255 ∧ g8_p 1#8 (g8_t.getD n 0) = BitVec.ofNat 8 n) := by decide +kernel
theorem g8_lg (a : BitVec 8) : a = 0#8 ∨ g8_l a < 255 ∧ g8_p 1#8 (g8_l a) = a := by
  rcases g8_ln a.toNat a.isLt with h | ⟨h, e⟩
  · exact Or.inl (by rw [← g8_of a, h])
  · exact Or.inr ⟨h, e.trans (g8_of a)⟩
theorem g8_255 : g8_p 1#8 255 = 1#8 := by decide +kernel
theorem g8_pi : ∀ i, i < 255 → g8_l (g8_p 1#8 i) = i := by decide +kernel
theorem g8_pc (a c : BitVec 8) (i : Nat) (h : g8_p 1#8 i = a) : g8_m a c 8 = g8_p c i := by
  rw [← h, g8_mp, g8_m1]
theorem g8_com (a c : BitVec 8) : g8_m a c 8 = g8_m c a 8 := by
  rcases g8_lg a with h | ⟨_, h⟩
  · rw [h, g8_m0, g8_0m]
  · rcases g8_lg c with k | ⟨_, k⟩
    · rw [k, g8_m0, g8_0m]
    · rw [g8_pc a c _ h, g8_pc c a _ k, ← k, g8_pa, k]
      conv => rhs; rw [← h]
      rw [g8_pa, Nat.add_comm]
theorem g8_as (a b c : BitVec 8) : g8_m (g8_m a b 8) c 8 = g8_m a (g8_m b c 8) 8 := by
  rcases g8_lg a with h | ⟨_, h⟩
  · rw [h, g8_m0, g8_m0, g8_m0]
  · rw [g8_pc a b _ h, g8_pc a (g8_m b c 8) _ h, g8_mp]
def g8_i (a : BitVec 8) : BitVec 8 := if a = 0#8 then 0#8 else g8_p 1#8 (255 - g8_l a)
theorem g8_mi (a : BitVec 8) (h : a ≠ 0#8) : g8_m a (g8_i a) 8 = 1#8 := by
  rcases g8_lg a with k | ⟨l, k⟩
  · exact absurd k h
  · unfold g8_i
    rw [if_neg h, g8_pc a _ _ k, g8_pa, show 255 - g8_l a + g8_l a = 255 by omega, g8_255]
theorem g8_ii (a : BitVec 8) : g8_i (g8_i a) = a := by
  by_cases h : a = 0#8
  · rw [h]; decide
  · have u := g8_mi a h
    have n : g8_i a ≠ 0#8 := by
      intro q
      rw [q, g8_0m] at u
      exact absurd u (by decide)
    have v := g8_mi (g8_i a) n
    have e : g8_m (g8_m a (g8_i a) 8) (g8_i (g8_i a)) 8 = g8_m a (g8_m (g8_i a) (g8_i (g8_i a)) 8) 8 := g8_as _ _ _
    rw [u, v, g8_m1, g8_com, g8_m1] at e
    exact e

def GF : Type := BitVec 8
def gf_n (n : Nat) : BitVec 8 := if n % 2 = 0 then 0#8 else 1#8
theorem gf_ns (n : Nat) : gf_n (n + 1) = gf_n n ^^^ gf_n 1 := by
  unfold gf_n
  by_cases h : n % 2 = 0
  · rw [if_pos h, if_neg (by omega)]; rfl
  · rw [if_neg h, if_pos (by omega)]; rfl
def gf_p (a : BitVec 8) : Nat → BitVec 8
  | 0 => 1#8
  | n + 1 => g8_m (gf_p a n) a 8
def gf_z (a : BitVec 8) : Int → BitVec 8
  | .ofNat n => gf_p a n
  | .negSucc n => g8_i (gf_p a (n + 1))
theorem gf_zn (a : BitVec 8) (i : Int) : gf_z a (-i) = g8_i (gf_z a i) := by
  cases i with
  | ofNat n =>
    cases n with
    | zero => show gf_p a 0 = g8_i (gf_p a 0); show 1#8 = g8_i 1#8; decide
    | succ n => rfl
  | negSucc n => show gf_p a (n + 1) = g8_i (g8_i (gf_p a (n + 1))); rw [g8_ii]
def gf_F : Lean.Grind.Field GF :=
  { add := fun (a b : BitVec 8) => a ^^^ b
    mul := fun (a b : BitVec 8) => g8_m a b 8
    natCast := ⟨gf_n⟩
    ofNat := fun n => ⟨gf_n n⟩
    nsmul := ⟨fun (n : Nat) (a : BitVec 8) => g8_m (gf_n n) a 8⟩
    npow := ⟨fun (a : BitVec 8) (n : Nat) => gf_p a n⟩
    add_zero := fun (a : BitVec 8) => BitVec.xor_zero
    add_comm := fun (a b : BitVec 8) => BitVec.xor_comm a b
    add_assoc := fun (a b c : BitVec 8) => BitVec.xor_assoc a b c
    mul_assoc := fun (a b c : BitVec 8) => g8_as a b c
    mul_one := fun (a : BitVec 8) => (g8_com a 1#8).trans (g8_m1 a)
    one_mul := fun (a : BitVec 8) => g8_m1 a
    left_distrib := fun (a b c : BitVec 8) => g8_mr a b c 8
    right_distrib := fun (a b c : BitVec 8) => g8_ml a b c 8
    zero_mul := fun (a : BitVec 8) => g8_m0 a
    mul_zero := fun (a : BitVec 8) => g8_0m a
    pow_zero := fun _ => rfl
    pow_succ := fun _ _ => rfl
    ofNat_succ := fun n => gf_ns n
    ofNat_eq_natCast := fun _ => rfl
    nsmul_eq_natCast_mul := fun _ _ => rfl
    neg := fun (a : BitVec 8) => a
    sub := fun (a b : BitVec 8) => a ^^^ b
    intCast := ⟨fun (i : Int) => gf_n i.natAbs⟩
    zsmul := ⟨fun (i : Int) (a : BitVec 8) => g8_m (gf_n i.natAbs) a 8⟩
    neg_add_cancel := fun (a : BitVec 8) => BitVec.xor_self
    sub_eq_add_neg := fun _ _ => rfl
    neg_zsmul := fun (i : Int) (a : BitVec 8) => by
      show g8_m (gf_n (-i).natAbs) a 8 = g8_m (gf_n i.natAbs) a 8
      rw [Int.natAbs_neg]
    zsmul_natCast_eq_nsmul := fun _ _ => rfl
    intCast_ofNat := fun _ => rfl
    intCast_neg := fun i => by
      show gf_n (-i).natAbs = gf_n i.natAbs
      rw [Int.natAbs_neg]
    mul_comm := fun (a b : BitVec 8) => g8_com a b
    inv := fun (a : BitVec 8) => g8_i a
    div := fun (a b : BitVec 8) => g8_m a (g8_i b) 8
    zpow := ⟨fun (a : BitVec 8) (i : Int) => gf_z a i⟩
    div_eq_mul_inv := fun _ _ => rfl
    zero_ne_one := fun h => absurd (show (0#8 : BitVec 8) = 1#8 from h) (by decide)
    inv_zero := by show g8_i 0#8 = 0#8; decide
    mul_inv_cancel := fun {a} h => g8_mi a h
    zpow_zero := fun _ => rfl
    zpow_succ := fun _ _ => rfl
    zpow_neg := fun (a : BitVec 8) (i : Int) => gf_zn a i }
def gf_C : letI := gf_F; Lean.Grind.IsCharP GF 2 :=
  letI := gf_F
  { ofNat_ext_iff := fun {x y} => by
      show gf_n x = gf_n y ↔ x % 2 = y % 2
      unfold gf_n
      by_cases h : x % 2 = 0
      · by_cases k : y % 2 = 0
        · rw [if_pos h, if_pos k]; exact ⟨fun _ => by omega, fun _ => rfl⟩
        · rw [if_pos h, if_neg k]; exact ⟨fun q => absurd q (by decide), fun q => by omega⟩
      · by_cases k : y % 2 = 0
        · rw [if_neg h, if_pos k]; exact ⟨fun q => absurd q (by decide), fun q => by omega⟩
        · rw [if_neg h, if_neg k]; exact ⟨fun _ => by omega, fun _ => rfl⟩ }
def gf_em (a : GF) : Int32 := nI (@BitVec.toNat 8 a)
def gf_al : GF := (2#8 : BitVec 8)
theorem gf_xn : ∀ n, n < 256 → (g8_x (BitVec.ofNat 8 n)).toNat = ym_x n := by decide +kernel
theorem gf_sn : ∀ t, t < 8 → ∀ n, n < 256 → (g8_p (BitVec.ofNat 8 n) t).toNat = ym_2 (n <<< t) 7 := by decide +kernel
theorem gf_2x (x y k : Nat) : ym_2 (x ^^^ y) k = ym_2 x k ^^^ ym_2 y k := by
  induction k with
  | zero => rfl
  | succ k ih =>
    have e : ∀ z, ym_2 z (k + 1) = ym_2 z k ^^^ (if (ym_2 z k).testBit (14 - k) = true then 285 <<< (6 - k) else 0) := by
      intro z
      show (if (ym_2 z k).testBit (14 - k) = true then ym_2 z k ^^^ (285 <<< (6 - k)) else ym_2 z k) = _
      cases (ym_2 z k).testBit (14 - k)
      · rw [if_neg (by decide), if_neg (by decide), Nat.xor_zero]
      · rw [if_pos rfl, if_pos rfl]
    rw [e, e x, e y, ih, Nat.testBit_xor]
    generalize ym_2 x k = A
    generalize ym_2 y k = B
    generalize 285 <<< (6 - k) = C
    cases A.testBit (14 - k) <;> cases B.testBit (14 - k) <;> simp
    · rw [Nat.xor_assoc]
    · rw [Nat.xor_assoc, Nat.xor_assoc, Nat.xor_comm B C]
    · rw [Nat.xor_assoc, Nat.xor_comm C, Nat.xor_assoc, Nat.xor_self, Nat.xor_zero]
theorem gf_mn (n m : Nat) (hn : n < 256) (hm : m < 256) : ∀ t, t ≤ 8 → (g8_m (BitVec.ofNat 8 n) (BitVec.ofNat 8 m) t).toNat = ym_2 (ym_1 n m t) 7 := by
  intro t
  induction t with
  | zero => intro _; show (0#8 : BitVec 8).toNat = ym_2 0 7; decide
  | succ t ih =>
    intro ht
    show (g8_m (BitVec.ofNat 8 n) (BitVec.ofNat 8 m) t ^^^ _).toNat = ym_2 (ym_1 n m t ^^^ _) 7
    rw [BitVec.toNat_xor, ih (by omega), gf_2x]
    congr 1
    rw [BitVec.getLsbD_ofNat, decide_eq_true (show t < 8 by omega), Bool.true_and]
    cases m.testBit t
    · rw [if_neg (by decide), if_neg (by decide)]; decide
    · rw [if_pos rfl, if_pos rfl]; exact gf_sn t (by omega) n hn
theorem gf_pp (i : Nat) : gf_p 2#8 i = g8_p 1#8 i := by
  induction i with
  | zero => rfl
  | succ i ih =>
    show g8_m (gf_p 2#8 i) 2#8 8 = _
    rw [ih, g8_mp, g8_m1, show (2#8 : BitVec 8) = g8_p 1#8 1 by decide, g8_pa, Nat.add_comm]
theorem gf_e1 (a b : BitVec 8) : nI (a ^^^ b).toNat = nI a.toNat ^^^ nI b.toNat := by rw [BitVec.toNat_xor, nx_xor]
theorem gf_e8 (a : BitVec 8) (n : Nat) (hn : n < 256) (h : nI a.toNat = nI n) : nI (g8_m a 2#8 8).toNat = nI (ym_x n) := by
  have la := a.isLt
  have e : a.toNat = n := (nI_eq (by omega) (by omega)).mp h
  rw [g8_com, show (2#8 : BitVec 8) = g8_p 1#8 1 by decide, g8_mp, g8_m1]
  show nI (g8_x a).toNat = _
  rw [← g8_of a, e, gf_xn n hn]
theorem gf_e9 (a b : BitVec 8) (n m : Nat) (hn : n < 256) (hm : m < 256) (h : nI a.toNat = nI n) (k : nI b.toNat = nI m) : nI (g8_m a b 8).toNat = nI (ym_2 (ym_1 n m 8) 7) := by
  have la := a.isLt
  have lb := b.isLt
  have e : a.toNat = n := (nI_eq (by omega) (by omega)).mp h
  have f : b.toNat = m := (nI_eq (by omega) (by omega)).mp k
  rw [← g8_of a, ← g8_of b, e, f, gf_mn n m hn hm 8 (Nat.le_refl _)]
theorem gf_E : @em_P GF gf_F gf_C gf_em gf_al := by
  refine ⟨gf_e1, ?_, ?_, ?_, ⟨by decide, by decide, by decide⟩, ?_, ?_, ?_, gf_e8, gf_e9⟩
  · intro a
    exact ⟨@BitVec.toNat 8 a, @BitVec.isLt 8 a, rfl⟩
  · intro a b h
    have la : @BitVec.toNat 8 a < 256 := @BitVec.isLt 8 a
    have lb : @BitVec.toNat 8 b < 256 := @BitVec.isLt 8 b
    exact @BitVec.eq_of_toNat_eq 8 a b ((nI_eq (by omega) (by omega)).mp h)
  · intro n hn
    refine ⟨BitVec.ofNat 8 n, ?_⟩
    show nI (BitVec.toNat (BitVec.ofNat 8 n)) = nI n
    rw [BitVec.toNat_ofNat, Nat.mod_eq_of_lt hn]
  · show gf_p 2#8 255 = 1#8
    rw [gf_pp, g8_255]
  · intro i j hi hj h
    have h : gf_p 2#8 i = gf_p 2#8 j := h
    rw [gf_pp, gf_pp] at h
    rw [← g8_pi i hi, h, g8_pi j hj]
  · intro a h
    rcases g8_lg a with k | ⟨l, k⟩
    · exact absurd k h
    · refine ⟨g8_l a, l, ?_⟩
      show a = gf_p 2#8 (g8_l a)
      rw [gf_pp]
      exact k.symm
end
section
/-! the component's field: tables, product, quotient, power -/
section
variable {f_p f_k f_b f_messageLength f_sentLength f_receivedLength f_resultStatus f_deliveredLength f_errorCount f_erasureCount : Int32} {a_powers a_logs a_generator a_message a_sent a_received a_flags a_delivered a_changes a_locator a_syndromes a_modified a_evaluator a_register a_previous a_saved a_located : Nat → Int32}
def tb_T {F : Type} [Lean.Grind.Field F] (em : F → Int32) (al : F) (pw lg : Nat → Int32) : Prop := (∀ i, i < 510 → pw i = em (al ^ i)) ∧ (∀ i, i < 255 → ∀ n, n < 256 → em (al ^ i) = nI n → lg n = nI i)
theorem xp_power {F : Type} [Lean.Grind.Field F] [Lean.Grind.IsCharP F 2] {em : F → Int32} {al : F} (E : em_P em al) {post : Int32 → Prop} (T : tb_T em al a_powers a_logs) {e : Int32} (z : Int) (hz : e.toInt = z) (h : post (em (ae_e al z))) : wpX_power post (f_p, f_k, f_b, f_messageLength, f_sentLength, f_receivedLength, f_resultStatus, f_deliveredLength, f_errorCount, f_erasureCount, a_powers, a_logs, a_generator, a_message, a_sent, a_received, a_flags, a_delivered, a_changes, a_locator, a_syndromes, a_modified, a_evaluator, a_register, a_previous, a_saved, a_located) e := by
  subst hz
  have R := ae_r e
  have lt : (e.toInt % 255).toNat < 255 := by omega
  have v : post (a_powers (e.toInt % 255).toNat) := by rw [T.1 _ (by omega)]; exact h
  refine ⟨by decide, nm_e (br_c (fun h0 => ?_) (fun h0 => nm_e ?_))⟩
  · rw [R.1 h0]
    refine ⟨vp_in_nI (by omega) (by decide), ?_⟩
    rw [nI_clamp (by omega)]
    exact v
  · rw [R.2 h0]
    refine ⟨vp_in_nI (by omega) (by decide), ?_⟩
    rw [nI_clamp (by omega)]
    exact v
theorem xp_product {F : Type} [Lean.Grind.Field F] [Lean.Grind.IsCharP F 2] {em : F → Int32} {al : F} (E : em_P em al) {post : Int32 → Prop} (T : tb_T em al a_powers a_logs) {a c : Int32} (x y : F) (ha : a = em x) (hc : c = em y) (h : post (em (x * y))) : wpX_product post (f_p, f_k, f_b, f_messageLength, f_sentLength, f_receivedLength, f_resultStatus, f_deliveredLength, f_errorCount, f_erasureCount, a_powers, a_logs, a_generator, a_message, a_sent, a_received, a_flags, a_delivered, a_changes, a_locator, a_syndromes, a_modified, a_evaluator, a_register, a_previous, a_saved, a_located) a c := by
  subst ha hc
  by_cases hx : x = 0
  · refine br_t ((em_z E).mpr hx) ?_
    rw [hx, Lean.Grind.Semiring.zero_mul, em_0 E] at h
    exact h
  · by_cases hy : y = 0
    · refine br_f (em_nz E hx) (br_t ((em_z E).mpr hy) ?_)
      rw [hy, Lean.Grind.Semiring.mul_zero, em_0 E] at h
      exact h
    · obtain ⟨i, hi, rfl⟩ := em_log E hx
      obtain ⟨j, hj, rfl⟩ := em_log E hy
      obtain ⟨n, hn, en⟩ := em_rng E (al ^ i)
      obtain ⟨m, hm, em'⟩ := em_rng E (al ^ j)
      refine br_f (em_nz E hx) (br_f (em_nz E hy) ⟨em_in E _ (by omega) (by omega), em_in E _ (by omega) (by omega), ?_⟩)
      rw [en, em', nI_clamp (by omega), nI_clamp (by omega), T.2 i hi n hn en, T.2 j hj m hm em', nI_add]
      refine ⟨vp_in_nI (by omega) (by decide), ?_⟩
      rw [nI_clamp (by omega), T.1 _ (by omega), pw_a]
      exact h
theorem xp_quotient {F : Type} [Lean.Grind.Field F] [Lean.Grind.IsCharP F 2] {em : F → Int32} {al : F} (E : em_P em al) {post : Int32 → Prop} (T : tb_T em al a_powers a_logs) {a c : Int32} (x y : F) (ha : a = em x) (hc : c = em y) (h : post (em (x * y⁻¹))) : wpX_quotient post (f_p, f_k, f_b, f_messageLength, f_sentLength, f_receivedLength, f_resultStatus, f_deliveredLength, f_errorCount, f_erasureCount, a_powers, a_logs, a_generator, a_message, a_sent, a_received, a_flags, a_delivered, a_changes, a_locator, a_syndromes, a_modified, a_evaluator, a_register, a_previous, a_saved, a_located) a c := by
  subst ha hc
  by_cases hx : x = 0
  · refine br_t ((em_z E).mpr hx) ?_
    rw [hx, Lean.Grind.Semiring.zero_mul, em_0 E] at h
    exact h
  · by_cases hy : y = 0
    · refine br_f (em_nz E hx) (br_t ((em_z E).mpr hy) ?_)
      rw [hy, Lean.Grind.Field.inv_zero, Lean.Grind.Semiring.mul_zero, em_0 E] at h
      exact h
    · obtain ⟨i, hi, rfl⟩ := em_log E hx
      obtain ⟨j, hj, rfl⟩ := em_log E hy
      obtain ⟨n, hn, en⟩ := em_rng E (al ^ i)
      obtain ⟨m, hm, em'⟩ := em_rng E (al ^ j)
      have q : al ^ (i + 255 - j) = al ^ i * (al ^ j)⁻¹ := by
        have a : al ^ (i + 255 - j) * al ^ j = al ^ i := by
          rw [← pw_a, show i + 255 - j + j = i + 255 by omega, pw_a, em_255 E]; grind
        have b := fz_i hy
        rw [← a]
        have : al ^ (i + 255 - j) * al ^ j * (al ^ j)⁻¹ = al ^ (i + 255 - j) * (al ^ j * (al ^ j)⁻¹) := by grind
        rw [this, b]; grind
      have ix : nI i - nI j + 255 = nI (i + 255 - j) := by
        have a : nI (i + 255 - j) + nI j = nI i + nI 255 := by
          rw [nI_add, nI_add]
          exact congrArg nI (by omega)
        show nI i - nI j + nI 255 = _
        grind
      refine br_f (em_nz E hx) (br_f (em_nz E hy) ⟨em_in E _ (by omega) (by omega), em_in E _ (by omega) (by omega), ?_⟩)
      rw [en, em', nI_clamp (by omega), nI_clamp (by omega), T.2 i hi n hn en, T.2 j hj m hm em', ix]
      refine ⟨vp_in_nI (by omega) (by decide), ?_⟩
      rw [nI_clamp (by omega), T.1 _ (by omega), q]
      exact h
theorem xp_isEl {post : Int32 → Prop} (x : Int32) (h1 : ¬ x < 0 → x ≤ 255 → post 1) (h0 : (x < 0 ∨ ¬ x ≤ 255) → post 0) : wpX_isElement post (f_p, f_k, f_b, f_messageLength, f_sentLength, f_receivedLength, f_resultStatus, f_deliveredLength, f_errorCount, f_erasureCount, a_powers, a_logs, a_generator, a_message, a_sent, a_received, a_flags, a_delivered, a_changes, a_locator, a_syndromes, a_modified, a_evaluator, a_register, a_previous, a_saved, a_located) x := by
  refine br_c (fun q => h0 (Or.inl q)) (fun q => br_c (fun r => h0 (Or.inr ?_)) (fun r => h1 q ?_))
  · exact Int32.not_le.mpr r
  · exact Int32.not_lt.mp r
/-- one step of the tables -/
theorem xb_step {F : Type} [Lean.Grind.Field F] [Lean.Grind.IsCharP F 2] {em : F → Int32} {al : F} (E : em_P em al) {i n : Nat} (hn : n < 256) (en : em (al ^ i) = nI n) {A B : Prop} (h : ∀ x, x = em (al ^ (i + 1)) → (x = nI n <<< ((1 : Int32) &&& 31) → A) ∧ (x = (nI n <<< ((1 : Int32) &&& 31)) ^^^ 285 → B)) : (((nI n <<< ((1 : Int32) &&& 31)) &&& 256) = 0 → A) ∧ (¬ ((nI n <<< ((1 : Int32) &&& 31)) &&& 256) = 0 → B) := by
  have s : nI n <<< ((1 : Int32) &&& 31) = nI (2 * n) := by
    rw [pk_shlN _ 1 (by decide) (by omega)]
    exact congrArg nI (by omega)
  have m : (nI (2 * n) &&& 256) = nI ((2 * n) &&& 256) := nx_and (2 * n) 256
  have lt : (2 * n) &&& 256 ≤ 256 := Nat.and_le_right
  have z : (nI (2 * n) &&& 256) = 0 ↔ (2 * n) &&& 256 = 0 := by
    rw [m]
    exact nI_eq (b := 0) (by omega) (by omega)
  have x := em_x E hn en
  rw [← pw_s] at x
  have k := h _ x.symm
  rw [s] at k ⊢
  rw [z]
  refine ⟨fun q => k.1 ?_, fun q => k.2 ?_⟩
  · unfold ym_x; rw [if_pos q]
  · unfold ym_x; rw [if_neg q]; exact (nx_xor (2 * n) 285).symm
theorem xb_tables {F : Type} [Lean.Grind.Field F] [Lean.Grind.IsCharP F 2] {em : F → Int32} {al : F} (E : em_P em al) {post : SX → Prop} (h : ∀ pw lg, tb_T em al pw lg → post (f_p, f_k, f_b, f_messageLength, f_sentLength, f_receivedLength, f_resultStatus, f_deliveredLength, f_errorCount, f_erasureCount, pw, lg, a_generator, a_message, a_sent, a_received, a_flags, a_delivered, a_changes, a_locator, a_syndromes, a_modified, a_evaluator, a_register, a_previous, a_saved, a_located)) : wpX_buildTables post (f_p, f_k, f_b, f_messageLength, f_sentLength, f_receivedLength, f_resultStatus, f_deliveredLength, f_errorCount, f_erasureCount, a_powers, a_logs, a_generator, a_message, a_sent, a_received, a_flags, a_delivered, a_changes, a_locator, a_syndromes, a_modified, a_evaluator, a_register, a_previous, a_saved, a_located) := by
  refine Exists.imp (fun n hn => ?_) (pk_loop (σ := Int32 × (Nat → Int32) × (Nat → Int32)) (fun n i s => wX_buildTables_4 post f_p f_k f_b f_messageLength f_sentLength f_receivedLength f_resultStatus f_deliveredLength f_errorCount f_erasureCount n s.1 (nI i) (s.2.1) (s.2.2) a_generator a_message a_sent a_received a_flags a_delivered a_changes a_locator a_syndromes a_modified a_evaluator a_register a_previous a_saved a_located) (fun i s => s.1 = em (al ^ i) ∧ (∀ k, k < i → s.2.1 k = em (al ^ k) ∧ s.2.1 (k + 255) = em (al ^ k)) ∧ ∀ k, k < i → ∀ n, n < 256 → em (al ^ k) = nI n → s.2.2 n = nI k) 255 0 (1, a_powers, a_logs) (by omega) ⟨by rw [pw_0, em_1 E], fun k hk => absurd hk (by omega), fun k hk => absurd hk (by omega)⟩ ?_ ?_)
  · exact hn
  · intro n s hs
    refine pk_le 255 255 (fun _ => ?_) (fun q => absurd q (by omega))
    refine h _ _ ⟨?_, hs.2.2⟩
    intro i hi
    by_cases q : i < 255
    · exact (hs.2.1 i q).1
    · have := (hs.2.1 (i - 255) (by omega)).2
      rw [show i - 255 + 255 = i by omega] at this
      rw [this, show i = (i - 255) + 255 by omega, pw_a, em_255 E, show i - 255 + 255 - 255 = i - 255 by omega]
      congr 1
      grind
  · intro n i s hi hs K
    obtain ⟨x, pw, lg⟩ := s
    obtain ⟨h1, h2, h3⟩ := hs
    dsimp only at h1 h2 h3 K ⊢
    obtain ⟨m, hm, en⟩ := em_rng E (al ^ i)
    have e1 : (nI i + 255).toNatClampNeg = i + 255 := pk_cl (i + 255) (nI_add i 255) (by omega)
    refine pk_le 255 i (fun q => absurd q (by omega)) (fun _ => ⟨pk_in i 510 (by omega), nm_e ⟨pk_in (i + 255) 510 (by omega) (nI_add i 255), nm_e ⟨by rw [h1]; exact em_in E _ (by omega) (by omega), nm_e (nm_e ?_)⟩⟩⟩)
    rw [e1, nI_clamp (show i < 2 ^ 31 by omega), h1, en, nI_clamp (show m < 2 ^ 31 by omega)]
    have J : (fun i (s : Int32 × (Nat → Int32) × (Nat → Int32)) => s.1 = em (al ^ i) ∧ (∀ k, k < i → s.2.1 k = em (al ^ k) ∧ s.2.1 (k + 255) = em (al ^ k)) ∧ ∀ k, k < i → ∀ n, n < 256 → em (al ^ k) = nI n → s.2.2 n = nI k) (i + 1) (em (al ^ (i + 1)), upd (upd pw i (nI m)) (i + 255) (nI m), upd lg m (nI i)) := by
      refine ⟨rfl, ?_, ?_⟩
      · dsimp only
        intro k hk
        by_cases q : k = i
        · subst q
          exact ⟨by rw [pk_un (by omega), pk_us, en], by rw [pk_us, en]⟩
        · have := h2 k (by omega)
          exact ⟨by rw [pk_un (by omega), pk_un (by omega)]; exact this.1, by rw [pk_un (by omega), pk_un (by omega)]; exact this.2⟩
      · intro k hk w hw ew
        by_cases q : k = i
        · subst q
          rw [en] at ew
          have := (nI_eq (by omega) (by omega)).mp ew
          subst this
          exact pk_us
        · have ne : w ≠ m := by
            intro z
            rw [z, ← en] at ew
            exact q (em_ai E (by omega) (by omega) (em_inj E ew))
          show upd lg m (nI i) w = _
          rw [pk_un ne]
          exact h3 k (by omega) w hw ew
    refine xb_step E hm en (fun x hx => ⟨fun q => nm_r (nI_1 i) ?_, fun q => nm_e (nm_r (nI_1 i) ?_)⟩)
    · rw [← q, hx]
      exact K _ J
    · rw [← q, hx]
      exact K _ J
end
end
section
/-! the generator -/
def gn_m {F : Type} [Lean.Grind.Field F] (r : F) (q : Nat → F) : Nat → F
  | 0 => q 0 * r
  | t + 1 => q t + q (t + 1) * r
def gn_g {F : Type} [Lean.Grind.Field F] (r : Nat → F) : Nat → (Nat → F)
  | 0 => on_e
  | j + 1 => gn_m (r j) (gn_g r j)
theorem gn_s {F : Type} [Lean.Grind.Field F] (r : Nat → F) (j : Nat) : gn_g r (j + 1) = gn_m (r j) (gn_g r j) := rfl
theorem gn_dg {F : Type} [Lean.Grind.Field F] (r : Nat → F) : ∀ j t, j < t → gn_g r j t = 0 := by
  intro j
  induction j with
  | zero => intro t ht; exact on_s ht
  | succ j ih =>
    intro t ht
    cases t with
    | zero => omega
    | succ t =>
      show gn_g r j t + gn_g r j (t + 1) * r j = 0
      rw [ih t (by omega), ih (t + 1) (by omega)]; grind
theorem gn_top {F : Type} [Lean.Grind.Field F] (r : Nat → F) : ∀ j, gn_g r j j = 1 := by
  intro j
  induction j with
  | zero => exact on_0
  | succ j ih =>
    show gn_g r j j + gn_g r j (j + 1) * r j = 1
    rw [ih, gn_dg r j (j + 1) (by omega)]; grind
theorem gn_ev {F : Type} [Lean.Grind.Field F] (r : F) (q : Nat → F) (d : Nat) (h : q (d + 1) = 0) (z : F) : ev_l (gn_m r q) (d + 2) z = (z + r) * ev_l q (d + 1) z := by
  rw [ev_sh]
  have a : ev_l (fun t => gn_m r q (t + 1)) (d + 1) z = ev_l q (d + 1) z + r * ev_l (fun t => q (t + 1)) (d + 1) z := by
    rw [← ev_mul, ← ev_add]
    apply ev_congr
    intro i _
    show q i + q (i + 1) * r = q i + r * q (i + 1)
    grind
  have b := ev_sh q (d + 1) z
  rw [ev_n, h] at b
  rw [a]
  show q 0 * r + _ = _
  generalize ev_l q (d + 1) z = A at *
  generalize ev_l (fun t => q (t + 1)) (d + 1) z = B at *
  have c : z * B = A - q 0 := by grind
  have : q 0 * r + z * (A + r * B) = q 0 * r + z * A + r * (z * B) := by grind
  rw [this, c]; grind
theorem gn_root {F : Type} [Lean.Grind.Field F] [Lean.Grind.IsCharP F 2] (r : Nat → F) {k : Nat} : ∀ j, k < j → ev_l (gn_g r j) (j + 1) (r k) = 0 := by
  intro j
  induction j with
  | zero => intro h; omega
  | succ j ih =>
    intro h
    rw [gn_s, gn_ev _ _ j (gn_dg r j _ (by omega))]
    by_cases e : k = j
    · rw [e]; grind
    · rw [ih (by omega)]; grind
/-- the generator's coefficients are the elementary symmetric sums of the roots -/
theorem gn_sym {F : Type} [Lean.Grind.Field F] (r : Nat → F) : ∀ j t, t ≤ j → gn_g r j t = lm_l r (fun _ => true) (on_e : Nat → F) j (j - t) := by
  intro j
  induction j with
  | zero => intro t ht; rw [show t = 0 by omega]; rfl
  | succ j ih =>
    have c : ∀ m, ct_c (fun _ => true) m = m := by
      intro m
      induction m with
      | zero => rfl
      | succ m ih => rw [ct_nt rfl, ih]
    have top : lm_l r (fun _ => true) (on_e : Nat → F) j (j + 1) = 0 := lm_dg1 j _ (by rw [c]; omega)
    intro t ht
    rw [lm_t (M := fun _ => true) rfl]
    cases t with
    | zero =>
      show gn_g r j 0 * r j = fc_f _ _ (j + 1)
      rw [fc_s, top, ih 0 (by omega), Nat.sub_zero]; grind
    | succ t =>
      show gn_g r j t + gn_g r j (t + 1) * r j = fc_f _ _ (j + 1 - (t + 1))
      rw [show j + 1 - (t + 1) = j - t by omega, ih t (by omega)]
      by_cases e : t = j
      · subst e
        rw [gn_dg r t (t + 1) (by omega), Nat.sub_self, fc_0]; grind
      · rw [show j - t = (j - (t + 1)) + 1 by omega, fc_s, ih (t + 1) (by omega)]; grind
section
variable {f_p f_k f_b f_messageLength f_sentLength f_receivedLength f_resultStatus f_deliveredLength f_errorCount f_erasureCount : Int32} {a_powers a_logs a_generator a_message a_sent a_received a_flags a_delivered a_changes a_locator a_syndromes a_modified a_evaluator a_register a_previous a_saved a_located : Nat → Int32}
theorem xp_powN {F : Type} [Lean.Grind.Field F] [Lean.Grind.IsCharP F 2] {em : F → Int32} {al : F} (E : em_P em al) {post : Int32 → Prop} (T : tb_T em al a_powers a_logs) {e : Int32} (m : Nat) (hm : m < 2 ^ 31) (he : e = nI m) (h : post (em (al ^ m))) : wpX_power post (f_p, f_k, f_b, f_messageLength, f_sentLength, f_receivedLength, f_resultStatus, f_deliveredLength, f_errorCount, f_erasureCount, a_powers, a_logs, a_generator, a_message, a_sent, a_received, a_flags, a_delivered, a_changes, a_locator, a_syndromes, a_modified, a_evaluator, a_register, a_previous, a_saved, a_located) e :=
  xp_power E T (m : Int) (by rw [he, nI_toInt hm]) (by rw [ae_n E]; exact h)
theorem xg_in {F : Type} [Lean.Grind.Field F] [Lean.Grind.IsCharP F 2] {em : F → Int32} {al : F} (E : em_P em al) {post : SX → Prop} (T : tb_T em al a_powers a_logs) {J : Int32 → (Nat → Int32) → (Nat → Int32) → (Nat → Int32) → (Nat → Int32) → (Nat → Int32) → (Nat → Int32) → (Nat → Int32) → (Nat → Int32) → (Nat → Int32) → (Nat → Int32) → (Nat → Int32) → (Nat → Int32) → (Nat → Int32) → (Nat → Int32) → (Nat → Int32) → (Nat → Int32) → (Nat → Int32) → Prop} {j : Nat} (hj : j < 8) (rt : F) (q : Nat → F) (hq : ∀ t, j < t → q t = 0) (hg : ∀ t, t < 9 → a_generator t = em (q t)) (hJ : ∀ g', (∀ t, t < 9 → g' t = em (gn_m rt q t)) → J (nI (j + 1)) a_powers a_logs g' a_message a_sent a_received a_flags a_delivered a_changes a_locator a_syndromes a_modified a_evaluator a_register a_previous a_saved a_located) : ∃ n, wX_buildGenerator_32 post J (nI j) (em rt) f_p f_k f_b f_messageLength f_sentLength f_receivedLength f_resultStatus f_deliveredLength f_errorCount f_erasureCount n (nI (j + 1)) a_powers a_logs a_generator a_message a_sent a_received a_flags a_delivered a_changes a_locator a_syndromes a_modified a_evaluator a_register a_previous a_saved a_located := by
  refine ⟨_, pk_loopD (fun n i s => i ≤ j + 1 → wX_buildGenerator_32 post J (nI j) (em rt) f_p f_k f_b f_messageLength f_sentLength f_receivedLength f_resultStatus f_deliveredLength f_errorCount f_erasureCount n (nI i) a_powers a_logs s a_message a_sent a_received a_flags a_delivered a_changes a_locator a_syndromes a_modified a_evaluator a_register a_previous a_saved a_located) (fun i s => ∀ t, t < 9 → s t = em (if i < t then gn_m rt q t else q t)) ?_ ?_ (j + 1) a_generator ?_ (Nat.le_refl _)⟩
  · intro n s hs _
    refine pk_lt 0 1 (fun _ => ?_) (fun w => absurd w (by omega))
    refine xp_product E T (q 0) rt (by rw [hs 0 (by omega), if_neg (by omega)]) rfl (nm_e (nm_r (nI_1 j) (hJ _ ?_)))
    intro t ht
    by_cases e : t = 0
    · subst e; exact pk_us
    · rw [pk_un e, hs t ht, if_pos (by omega)]
  · intro n i s hs K hi
    have K := fun s' a => K s' a (by omega)
    refine pk_lt (i + 1) 1 (fun w => absurd w (by omega)) (fun _ => ?_)
    rw [nI_pred]
    refine ⟨pk_in i 9 (by omega), pk_in (i + 1) 9 (by omega), ?_⟩
    rw [nI_clamp (show i < 2 ^ 31 by omega), nI_clamp (show i + 1 < 2 ^ 31 by omega)]
    refine xp_product E T (q (i + 1)) rt (by rw [hs _ (by omega), if_neg (by omega)]) rfl ⟨pk_in (i + 1) 9 (by omega), nm_e (nm_r (pk_m1 i) (K _ ?_))⟩
    intro t ht
    by_cases e : t = i + 1
    · subst e
      rw [pk_us, if_pos (by omega), hs i (by omega), if_neg (by omega), ← em_add E]
      rfl
    · rw [pk_un e, hs t ht]
      by_cases w : i < t
      · rw [if_pos w, if_pos (by omega)]
      · rw [if_neg w, if_neg (by omega)]
  · intro t ht
    rw [hg t ht]
    by_cases w : j + 1 < t
    · rw [if_pos w]
      cases t with
      | zero => omega
      | succ t =>
        show em (q (t + 1)) = em (q t + q (t + 1) * rt)
        rw [hq t (by omega), hq (t + 1) (by omega)]
        congr 1
        grind
    · rw [if_neg w]
theorem xg_gen {F : Type} [Lean.Grind.Field F] [Lean.Grind.IsCharP F 2] {em : F → Int32} {al : F} (E : em_P em al) {post : SX → Prop} (T : tb_T em al a_powers a_logs) {p b : Nat} (hp : p ≤ 8) (hb : b ≤ 254) (h0 : ∀ t, t < 9 → a_generator t = 0) (h : ∀ g, (∀ t, t < 9 → g t = em (gn_g (fun j => al ^ (b + j)) p t)) → post (nI p, f_k, nI b, f_messageLength, f_sentLength, f_receivedLength, f_resultStatus, f_deliveredLength, f_errorCount, f_erasureCount, a_powers, a_logs, g, a_message, a_sent, a_received, a_flags, a_delivered, a_changes, a_locator, a_syndromes, a_modified, a_evaluator, a_register, a_previous, a_saved, a_located)) : wpX_buildGenerator post (nI p, f_k, nI b, f_messageLength, f_sentLength, f_receivedLength, f_resultStatus, f_deliveredLength, f_errorCount, f_erasureCount, a_powers, a_logs, a_generator, a_message, a_sent, a_received, a_flags, a_delivered, a_changes, a_locator, a_syndromes, a_modified, a_evaluator, a_register, a_previous, a_saved, a_located) := by
  refine nm_e (pk_loop (fun n i s => wX_buildGenerator_9 post (nI p) f_k (nI b) f_messageLength f_sentLength f_receivedLength f_resultStatus f_deliveredLength f_errorCount f_erasureCount n (nI i) a_powers a_logs s a_message a_sent a_received a_flags a_delivered a_changes a_locator a_syndromes a_modified a_evaluator a_register a_previous a_saved a_located) (fun i s => ∀ t, t < 9 → s t = em (gn_g (fun j => al ^ (b + j)) i t)) p 0 (upd a_generator 0 1) (by omega) ?_ ?_ ?_)
  · intro t ht
    by_cases e : t = 0
    · subst e
      rw [pk_us]
      show 1 = em (on_e 0)
      rw [on_0, em_1 E]
    · rw [pk_un e, h0 t ht]
      show 0 = em (on_e t)
      rw [on_s (by omega), em_0 E]
  · intro n s hs
    exact pk_le p p (fun _ => h s hs) (fun w => absurd w (by omega))
  · intro n i s hi hs K
    refine pk_le p i (fun w => absurd w (by omega)) (fun _ => ?_)
    refine xp_powN E T (b + i) (by omega) (nI_add b i) (nm_r (nI_1 i) ?_)
    exact xg_in E T (by omega) (al ^ (b + i)) (gn_g (fun j => al ^ (b + j)) i) (gn_dg _ i) hs (fun g' hg' => K g' hg')
end
end
section
/-! the component's polynomials: values, syndromes, locator, products -/
/-- a word's value, highest power first -/
def hv_h {F : Type} [Lean.Grind.Field F] (w : Nat → F) (z : F) : Nat → F
  | 0 => 0
  | i + 1 => hv_h w z i * z + w i
theorem hv_sum {F : Type} [Lean.Grind.Field F] (w : Nat → F) (z : F) : ∀ n, hv_h w z n = sm_s (fun i => w i * z ^ (n - 1 - i)) n := by
  intro n
  induction n with
  | zero => rfl
  | succ n ih =>
    show hv_h w z n * z + w n = _
    rw [ih, sm_n, ← sm_mulr, show n + 1 - 1 - n = 0 by omega, pw_0]
    have : sm_s (fun i => w i * z ^ (n - 1 - i) * z) n = sm_s (fun i => w i * z ^ (n + 1 - 1 - i)) n := sm_congr (fun i hi => by rw [show n + 1 - 1 - i = (n - 1 - i) + 1 by omega, pw_s]; grind)
    rw [this]; grind
theorem hv_congr {F : Type} [Lean.Grind.Field F] {w v : Nat → F} (z : F) : ∀ {n : Nat}, (∀ i, i < n → w i = v i) → hv_h w z n = hv_h v z n := by
  intro n
  induction n with
  | zero => intro _; rfl
  | succ n ih =>
    intro h
    show hv_h w z n * z + w n = hv_h v z n * z + v n
    rw [ih (fun i hi => h i (by omega)), h n (by omega)]
theorem sb_1 (x : Int32) : x - 1 = x + (-1) := by grind
section
variable {f_p f_k f_b f_messageLength f_sentLength f_receivedLength f_resultStatus f_deliveredLength f_errorCount f_erasureCount : Int32} {a_powers a_logs a_generator a_message a_sent a_received a_flags a_delivered a_changes a_locator a_syndromes a_modified a_evaluator a_register a_previous a_saved a_located : Nat → Int32}
theorem xe_register {F : Type} [Lean.Grind.Field F] [Lean.Grind.IsCharP F 2] {em : F → Int32} {al : F} (E : em_P em al) {post : Int32 → Prop} (T : tb_T em al a_powers a_logs) {c : Nat → F} {n : Nat} (hn : n ≤ 9) (hc : ∀ t, t < n → a_register t = em (c t)) {z : Int32} (y : F) (hz : z = em y) (h : post (em (ev_l c n y))) : wpX_evaluate__register post (f_p, f_k, f_b, f_messageLength, f_sentLength, f_receivedLength, f_resultStatus, f_deliveredLength, f_errorCount, f_erasureCount, a_powers, a_logs, a_generator, a_message, a_sent, a_received, a_flags, a_delivered, a_changes, a_locator, a_syndromes, a_modified, a_evaluator, a_register, a_previous, a_saved, a_located) (nI n) z := by
  subst hz
  refine nm_r (sb_1 _) ⟨_, pk_loopD (fun k i s => i ≤ n → wX_evaluate__register_8 post (em y) f_p f_k f_b f_messageLength f_sentLength f_receivedLength f_resultStatus f_deliveredLength f_errorCount f_erasureCount a_powers a_logs a_generator a_message a_sent a_received a_flags a_delivered a_changes a_locator a_syndromes a_modified a_evaluator a_register a_previous a_saved a_located k s (nI i + (-1))) (fun i s => s = em (ev_l (fun k => c (i + k)) (n - i) y)) ?_ ?_ n 0 ?_ (Nat.le_refl _)⟩
  · intro k s hs _
    refine br_t (by decide) ?_
    rw [hs]
    have : ev_l (fun k => c (0 + k)) (n - 0) y = ev_l c n y := ev_congr (fun i _ => by rw [Nat.zero_add]) y
    rw [this]
    exact h
  · intro k i s hs K hi
    have K := fun s' a => K s' a (by omega)
    show wX_evaluate__register_8 post (em y) f_p f_k f_b f_messageLength f_sentLength f_receivedLength f_resultStatus f_deliveredLength f_errorCount f_erasureCount a_powers a_logs a_generator a_message a_sent a_received a_flags a_delivered a_changes a_locator a_syndromes a_modified a_evaluator a_register a_previous a_saved a_located (k + 1) s (nI (i + 1) + (-1))
    rw [pk_m1]
    refine br_f (nI_pos (by omega)) ?_
    refine xp_product E T _ y hs rfl ⟨pk_in i 9 (by omega), nm_e (nm_e (K _ ?_))⟩
    rw [nI_clamp (by omega), hc i (by omega), ← em_add E]
    congr 1
    rw [show n - i = (n - (i + 1)) + 1 by omega, ev_sh]
    have : ev_l (fun t => c (i + (t + 1))) (n - (i + 1)) y = ev_l (fun k => c (i + 1 + k)) (n - (i + 1)) y := ev_congr (fun t _ => by rw [show i + (t + 1) = i + 1 + t by omega]) y
    rw [this, Nat.add_zero]; grind
  · rw [Nat.sub_self, ev_0, em_0 E]
theorem xe_evaluator {F : Type} [Lean.Grind.Field F] [Lean.Grind.IsCharP F 2] {em : F → Int32} {al : F} (E : em_P em al) {post : Int32 → Prop} (T : tb_T em al a_powers a_logs) {c : Nat → F} {n : Nat} (hn : n ≤ 8) (hc : ∀ t, t < n → a_evaluator t = em (c t)) {z : Int32} (y : F) (hz : z = em y) (h : post (em (ev_l c n y))) : wpX_evaluate__evaluator post (f_p, f_k, f_b, f_messageLength, f_sentLength, f_receivedLength, f_resultStatus, f_deliveredLength, f_errorCount, f_erasureCount, a_powers, a_logs, a_generator, a_message, a_sent, a_received, a_flags, a_delivered, a_changes, a_locator, a_syndromes, a_modified, a_evaluator, a_register, a_previous, a_saved, a_located) (nI n) z := by
  subst hz
  refine nm_r (sb_1 _) ⟨_, pk_loopD (fun k i s => i ≤ n → wX_evaluate__evaluator_8 post (em y) f_p f_k f_b f_messageLength f_sentLength f_receivedLength f_resultStatus f_deliveredLength f_errorCount f_erasureCount a_powers a_logs a_generator a_message a_sent a_received a_flags a_delivered a_changes a_locator a_syndromes a_modified a_evaluator a_register a_previous a_saved a_located k s (nI i + (-1))) (fun i s => s = em (ev_l (fun k => c (i + k)) (n - i) y)) ?_ ?_ n 0 ?_ (Nat.le_refl _)⟩
  · intro k s hs _
    refine br_t (by decide) ?_
    rw [hs]
    have : ev_l (fun k => c (0 + k)) (n - 0) y = ev_l c n y := ev_congr (fun i _ => by rw [Nat.zero_add]) y
    rw [this]
    exact h
  · intro k i s hs K hi
    have K := fun s' a => K s' a (by omega)
    show wX_evaluate__evaluator_8 post (em y) f_p f_k f_b f_messageLength f_sentLength f_receivedLength f_resultStatus f_deliveredLength f_errorCount f_erasureCount a_powers a_logs a_generator a_message a_sent a_received a_flags a_delivered a_changes a_locator a_syndromes a_modified a_evaluator a_register a_previous a_saved a_located (k + 1) s (nI (i + 1) + (-1))
    rw [pk_m1]
    refine br_f (nI_pos (by omega)) ?_
    refine xp_product E T _ y hs rfl ⟨pk_in i 8 (by omega), nm_e (nm_e (K _ ?_))⟩
    rw [nI_clamp (by omega), hc i (by omega), ← em_add E]
    congr 1
    rw [show n - i = (n - (i + 1)) + 1 by omega, ev_sh]
    have : ev_l (fun t => c (i + (t + 1))) (n - (i + 1)) y = ev_l (fun k => c (i + 1 + k)) (n - (i + 1)) y := ev_congr (fun t _ => by rw [show i + (t + 1) = i + 1 + t by omega]) y
    rw [this, Nat.add_zero]; grind
  · rw [Nat.sub_self, ev_0, em_0 E]
theorem xs_received {F : Type} [Lean.Grind.Field F] [Lean.Grind.IsCharP F 2] {em : F → Int32} {al : F} (E : em_P em al) {post : Int32 → Prop} (T : tb_T em al a_powers a_logs) {w : Nat → F} {N b j : Nat} (hN : N ≤ 18) (hb : b ≤ 254) (hj : j < 8) (hw : ∀ i, i < N → a_received i = em (w i)) (h : post (em (hv_h w (al ^ (b + j)) N))) : wpX_syndromeOf__received post (f_p, f_k, nI b, f_messageLength, f_sentLength, f_receivedLength, f_resultStatus, f_deliveredLength, f_errorCount, f_erasureCount, a_powers, a_logs, a_generator, a_message, a_sent, a_received, a_flags, a_delivered, a_changes, a_locator, a_syndromes, a_modified, a_evaluator, a_register, a_previous, a_saved, a_located) (nI N) (nI j) := by
  unfold wpX_syndromeOf__received
  refine xp_powN E T (b + j) (by omega) (nI_add b j) ?_
  refine pk_loop (fun n i s => wX_syndromeOf__received_18 post (nI N) (em (al ^ (b + j))) f_p f_k (nI b) f_messageLength f_sentLength f_receivedLength f_resultStatus f_deliveredLength f_errorCount f_erasureCount a_powers a_logs a_generator a_message a_sent a_received a_flags a_delivered a_changes a_locator a_syndromes a_modified a_evaluator a_register a_previous a_saved a_located n s (nI i)) (fun i s => s = em (hv_h w (al ^ (b + j)) i)) N 0 0 (by omega) (em_0 E).symm ?_ ?_
  · intro n s hs
    exact pk_le N N (fun _ => by rw [hs]; exact h) (fun q => absurd q (by omega))
  · intro n i s hi hs K
    refine pk_le N i (fun q => absurd q (by omega)) (fun _ => ?_)
    refine xp_product E T _ (al ^ (b + j)) hs rfl ⟨pk_in i 18 (by omega), nm_e (nm_r (nI_1 i) (K _ ?_))⟩
    rw [nI_clamp (by omega), hw i hi, ← em_add E]
    rfl
theorem xs_delivered {F : Type} [Lean.Grind.Field F] [Lean.Grind.IsCharP F 2] {em : F → Int32} {al : F} (E : em_P em al) {post : Int32 → Prop} (T : tb_T em al a_powers a_logs) {w : Nat → F} {N b j : Nat} (hN : N ≤ 18) (hb : b ≤ 254) (hj : j < 8) (hw : ∀ i, i < N → a_delivered i = em (w i)) (h : post (em (hv_h w (al ^ (b + j)) N))) : wpX_syndromeOf__delivered post (f_p, f_k, nI b, f_messageLength, f_sentLength, f_receivedLength, f_resultStatus, f_deliveredLength, f_errorCount, f_erasureCount, a_powers, a_logs, a_generator, a_message, a_sent, a_received, a_flags, a_delivered, a_changes, a_locator, a_syndromes, a_modified, a_evaluator, a_register, a_previous, a_saved, a_located) (nI N) (nI j) := by
  unfold wpX_syndromeOf__delivered
  refine xp_powN E T (b + j) (by omega) (nI_add b j) ?_
  refine pk_loop (fun n i s => wX_syndromeOf__delivered_18 post (nI N) (em (al ^ (b + j))) f_p f_k (nI b) f_messageLength f_sentLength f_receivedLength f_resultStatus f_deliveredLength f_errorCount f_erasureCount a_powers a_logs a_generator a_message a_sent a_received a_flags a_delivered a_changes a_locator a_syndromes a_modified a_evaluator a_register a_previous a_saved a_located n s (nI i)) (fun i s => s = em (hv_h w (al ^ (b + j)) i)) N 0 0 (by omega) (em_0 E).symm ?_ ?_
  · intro n s hs
    exact pk_le N N (fun _ => by rw [hs]; exact h) (fun q => absurd q (by omega))
  · intro n i s hi hs K
    refine pk_le N i (fun q => absurd q (by omega)) (fun _ => ?_)
    refine xp_product E T _ (al ^ (b + j)) hs rfl ⟨pk_in i 18 (by omega), nm_e (nm_r (nI_1 i) (K _ ?_))⟩
    rw [nI_clamp (by omega), hw i hi, ← em_add E]
    rfl
theorem xc_syn {F : Type} [Lean.Grind.Field F] [Lean.Grind.IsCharP F 2] {em : F → Int32} {al : F} (E : em_P em al) {post : SX → Prop} (T : tb_T em al a_powers a_logs) {w : Nat → F} {N b p : Nat} (hN : N ≤ 18) (hb : b ≤ 254) (hp : p ≤ 8) (hw : ∀ i, i < N → a_received i = em (w i)) (h : ∀ s, (∀ j, j < p → s j = em (hv_h w (al ^ (b + j)) N)) → post (nI p, f_k, nI b, f_messageLength, f_sentLength, nI N, f_resultStatus, f_deliveredLength, f_errorCount, f_erasureCount, a_powers, a_logs, a_generator, a_message, a_sent, a_received, a_flags, a_delivered, a_changes, a_locator, s, a_modified, a_evaluator, a_register, a_previous, a_saved, a_located)) : wpX_computeSyndromes post (nI p, f_k, nI b, f_messageLength, f_sentLength, nI N, f_resultStatus, f_deliveredLength, f_errorCount, f_erasureCount, a_powers, a_logs, a_generator, a_message, a_sent, a_received, a_flags, a_delivered, a_changes, a_locator, a_syndromes, a_modified, a_evaluator, a_register, a_previous, a_saved, a_located) := by
  refine pk_loop (fun n i s => wX_computeSyndromes_2 post (nI p) f_k (nI b) f_messageLength f_sentLength (nI N) f_resultStatus f_deliveredLength f_errorCount f_erasureCount n (nI i) a_powers a_logs a_generator a_message a_sent a_received a_flags a_delivered a_changes a_locator s a_modified a_evaluator a_register a_previous a_saved a_located) (fun i s => ∀ j, j < i → s j = em (hv_h w (al ^ (b + j)) N)) p 0 a_syndromes (by omega) (fun j hj => absurd hj (by omega)) ?_ ?_
  · intro n s hs
    exact pk_le p p (fun _ => h s hs) (fun q => absurd q (by omega))
  · intro n i s hi hs K
    refine pk_le p i (fun q => absurd q (by omega)) (fun _ => ?_)
    refine xs_received E T hN hb (by omega) hw ⟨pk_in i 8 (by omega), nm_e (nm_r (nI_1 i) (K _ ?_))⟩
    intro j hj
    rw [nI_clamp (by omega)]
    by_cases e : j = i
    · subst e; exact pk_us
    · rw [pk_un e]; exact hs j (by omega)
theorem xa_fac {F : Type} [Lean.Grind.Field F] [Lean.Grind.IsCharP F 2] {em : F → Int32} {al : F} (E : em_P em al) {post : SX → Prop} (T : tb_T em al a_powers a_logs) {q : Nat → F} {d m : Nat} (hd : d < 8) (hm : m < 2 ^ 31) (hq : ∀ t, d < t → q t = 0) (hl : ∀ t, t < 9 → a_locator t = em (q t)) {e : Int32} (he : e = nI m) (h : ∀ l, (∀ t, t < 9 → l t = em (fc_f (al ^ m) q t)) → post (f_p, f_k, f_b, f_messageLength, f_sentLength, f_receivedLength, f_resultStatus, f_deliveredLength, f_errorCount, f_erasureCount, a_powers, a_logs, a_generator, a_message, a_sent, a_received, a_flags, a_delivered, a_changes, l, a_syndromes, a_modified, a_evaluator, a_register, a_previous, a_saved, a_located)) : wpX_appendFactor post (f_p, f_k, f_b, f_messageLength, f_sentLength, f_receivedLength, f_resultStatus, f_deliveredLength, f_errorCount, f_erasureCount, a_powers, a_logs, a_generator, a_message, a_sent, a_received, a_flags, a_delivered, a_changes, a_locator, a_syndromes, a_modified, a_evaluator, a_register, a_previous, a_saved, a_located) (nI d) e := by
  subst he
  unfold wpX_appendFactor
  refine xp_powN E T m hm rfl ?_
  refine nm_r (nI_1 d) ⟨_, pk_loopD (fun n i s => i ≤ d + 1 → wX_appendFactor_11 post (em (al ^ m)) f_p f_k f_b f_messageLength f_sentLength f_receivedLength f_resultStatus f_deliveredLength f_errorCount f_erasureCount n (nI i) a_powers a_logs a_generator a_message a_sent a_received a_flags a_delivered a_changes s a_syndromes a_modified a_evaluator a_register a_previous a_saved a_located) (fun i s => ∀ t, t < 9 → s t = em (if i < t then fc_f (al ^ m) q t else q t)) ?_ ?_ (d + 1) a_locator ?_ (Nat.le_refl _)⟩
  · intro n s hs _
    refine pk_lt 0 1 (fun _ => h s ?_) (fun w => absurd w (by omega))
    intro t ht
    rw [hs t ht]
    by_cases w : 0 < t
    · rw [if_pos w]
    · rw [if_neg w, show t = 0 by omega, fc_0]
  · intro n i s hs K hi
    have K := fun s' a => K s' a (by omega)
    refine pk_lt (i + 1) 1 (fun w => absurd w (by omega)) (fun _ => ?_)
    rw [nI_pred]
    refine ⟨pk_in (i + 1) 9 (by omega), pk_in i 9 (by omega), ?_⟩
    rw [nI_clamp (show i < 2 ^ 31 by omega), nI_clamp (show i + 1 < 2 ^ 31 by omega)]
    refine xp_product E T (q i) (al ^ m) (by rw [hs _ (by omega), if_neg (by omega)]) rfl ⟨pk_in (i + 1) 9 (by omega), nm_e (nm_r (pk_m1 i) (K _ ?_))⟩
    intro t ht
    by_cases e : t = i + 1
    · subst e
      rw [pk_us, if_pos (by omega), hs _ (by omega), if_neg (by omega), ← em_add E, fc_s]
      congr 1
      grind
    · rw [pk_un e, hs t ht]
      by_cases w : i < t
      · rw [if_pos w, if_pos (by omega)]
      · rw [if_neg w, if_neg (by omega)]
  · intro t ht
    rw [hl t ht]
    by_cases w : d + 1 < t
    · rw [if_pos w, fc_dg hq t w, hq t (by omega)]
    · rw [if_neg w]
/-- a Boolean as an int -/
def bI_b (b : Bool) : Int32 := if b = true then 1 else 0
theorem bI_t {b : Bool} (h : b = true) : bI_b b = 1 := if_pos h
theorem bI_f {b : Bool} (h : b = false) : bI_b b = 0 := if_neg (by rw [h]; exact fun q => nomatch q)
theorem bI_z {b : Bool} : bI_b b = 0 ↔ b = false := by cases b <;> decide
theorem bI_br {b : Bool} {A B : Prop} {x : Int32} (hx : x = bI_b b) (f : b = false → A) (g : b = true → B) : (x = 0 → A) ∧ (¬ x = 0 → B) := by
  subst hx
  cases b with
  | false => exact br_t (by decide) (f rfl)
  | true => exact br_f (by decide) (g rfl)
theorem bI_br1 {b : Bool} {A B : Prop} {x : Int32} (hx : x = bI_b b) (f : b = true → A) (g : b = false → B) : (x = 1 → A) ∧ (¬ x = 1 → B) := by
  subst hx
  cases b with
  | false => exact br_f (by decide) (g rfl)
  | true => exact br_t (by decide) (f rfl)
/-- the nodes of a word with N cells -/
def nd_X {F : Type} [Lean.Grind.Field F] (al : F) (N : Nat) : Nat → F := fun i => al ^ (N - 1 - i)
theorem xl_ext {F : Type} [Lean.Grind.Field F] [Lean.Grind.IsCharP F 2] {em : F → Int32} {al : F} (E : em_P em al) {post : SX → Prop} (T : tb_T em al a_powers a_logs) {q : Nat → F} {d N : Nat} {M : Nat → Bool} (hN : N ≤ 18) (hM : ∀ i, i < N → a_located i = bI_b (M i)) (hd : d + ct_c M N ≤ 8) (hq : ∀ t, d < t → q t = 0) (hl : ∀ t, t < 9 → a_locator t = em (q t)) (h : ∀ l, (∀ t, t < 9 → l t = em (lm_l (nd_X al N) M q N t)) → post (f_p, f_k, f_b, f_messageLength, f_sentLength, nI N, f_resultStatus, f_deliveredLength, f_errorCount, f_erasureCount, a_powers, a_logs, a_generator, a_message, a_sent, a_received, a_flags, a_delivered, a_changes, l, a_syndromes, a_modified, a_evaluator, a_register, a_previous, a_saved, a_located)) : wpX_extendLocator post (f_p, f_k, f_b, f_messageLength, f_sentLength, nI N, f_resultStatus, f_deliveredLength, f_errorCount, f_erasureCount, a_powers, a_logs, a_generator, a_message, a_sent, a_received, a_flags, a_delivered, a_changes, a_locator, a_syndromes, a_modified, a_evaluator, a_register, a_previous, a_saved, a_located) (nI d) := by
  refine pk_loop (σ := Int32 × (Nat → Int32)) (fun n i s => wX_extendLocator_4 post n s.1 (nI i) f_p f_k f_b f_messageLength f_sentLength (nI N) f_resultStatus f_deliveredLength f_errorCount f_erasureCount a_powers a_logs a_generator a_message a_sent a_received a_flags a_delivered a_changes (s.2) a_syndromes a_modified a_evaluator a_register a_previous a_saved a_located) (fun i s => s.1 = nI (d + ct_c M i) ∧ ∀ t, t < 9 → s.2 t = em (lm_l (nd_X al N) M q i t)) N 0 (nI d, a_locator) (by omega) ⟨rfl, hl⟩ ?_ ?_
  · intro n s hs
    exact pk_le N N (fun _ => h s.2 hs.2) (fun w => absurd w (by omega))
  · intro n i s hi hs K
    obtain ⟨x, l⟩ := s
    obtain ⟨h1, h2⟩ := hs
    dsimp only at h1 h2 K ⊢
    subst h1
    refine pk_le N i (fun w => absurd w (by omega)) (fun _ => ⟨pk_in i 18 (by omega), ?_⟩)
    rw [nI_clamp (by omega)]
    refine bI_br (hM i hi) (fun f => nm_r (nI_1 i) (K (nI (d + ct_c M i), l) ⟨by dsimp only; rw [ct_nf f], ?_⟩)) (fun f => ?_)
    · dsimp only
      rw [lm_f f]
      exact h2
    · have lt := ct_lt hi f
      refine pk_le 8 (d + ct_c M i) (fun w => absurd w (by omega)) (fun _ => ?_)
      refine xa_fac E T (q := lm_l (nd_X al N) M q i) (d := d + ct_c M i) (m := N - 1 - i) (by omega) (by omega) (lm_dg hq i) h2 ?_ ?_
      · show nI N - nI 1 - nI i = _
        rw [pk_sub (by omega), pk_sub (by omega)]
      · intro l' hl'
        refine nm_r (nI_1 _) (nm_r (nI_1 i) (K (nI (d + ct_c M i + 1), l') ⟨by dsimp only; rw [ct_nt f]; rfl, ?_⟩))
        dsimp only
        rw [lm_t f]
        exact hl'
theorem xl_era {F : Type} [Lean.Grind.Field F] [Lean.Grind.IsCharP F 2] {em : F → Int32} {al : F} (E : em_P em al) {post : SX → Prop} (T : tb_T em al a_powers a_logs) {N : Nat} {M : Nat → Bool} (hN : N ≤ 18) (hM : ∀ i, i < N → a_flags i = bI_b (M i)) (hd : ct_c M N ≤ 8) (h : ∀ l, (∀ t, t < 9 → l t = em (lm_l (nd_X al N) M (on_e : Nat → F) N t)) → post (f_p, f_k, f_b, f_messageLength, f_sentLength, nI N, f_resultStatus, f_deliveredLength, f_errorCount, f_erasureCount, a_powers, a_logs, a_generator, a_message, a_sent, a_received, a_flags, a_delivered, a_changes, l, a_syndromes, a_modified, a_evaluator, a_register, a_previous, a_saved, a_located)) : wpX_buildErasureLocator post (f_p, f_k, f_b, f_messageLength, f_sentLength, nI N, f_resultStatus, f_deliveredLength, f_errorCount, f_erasureCount, a_powers, a_logs, a_generator, a_message, a_sent, a_received, a_flags, a_delivered, a_changes, a_locator, a_syndromes, a_modified, a_evaluator, a_register, a_previous, a_saved, a_located) := by
  refine nm_e (pk_loop (fun n i s => 1 ≤ i → wX_buildErasureLocator_9 post f_p f_k f_b f_messageLength f_sentLength (nI N) f_resultStatus f_deliveredLength f_errorCount f_erasureCount n (nI i) a_powers a_logs a_generator a_message a_sent a_received a_flags a_delivered a_changes s a_syndromes a_modified a_evaluator a_register a_previous a_saved a_located) (fun i s => ∀ t, t < i → s t = em ((on_e : Nat → F) t)) 9 1 (upd a_locator 0 1) (by omega) ?_ ?_ ?_ |> Exists.imp (fun n hn => hn (Nat.le_refl _)))
  · intro t ht
    rw [show t = 0 by omega, pk_us, on_0, em_1 E]
  · intro n s hs _
    refine pk_lt 8 9 (fun _ => ?_) (fun w => absurd w (by omega))
    refine pk_loop (σ := Int32 × (Nat → Int32)) (fun n i s => wX_buildErasureLocator_32 post n s.1 (nI i) f_p f_k f_b f_messageLength f_sentLength (nI N) f_resultStatus f_deliveredLength f_errorCount f_erasureCount a_powers a_logs a_generator a_message a_sent a_received a_flags a_delivered a_changes (s.2) a_syndromes a_modified a_evaluator a_register a_previous a_saved a_located) (fun i s => s.1 = nI (0 + ct_c M i) ∧ ∀ t, t < 9 → s.2 t = em (lm_l (nd_X al N) M (on_e : Nat → F) i t)) N 0 (0, s) (by omega) ⟨rfl, hs⟩ ?_ ?_
    · intro n s hs
      exact pk_le N N (fun _ => h s.2 hs.2) (fun w => absurd w (by omega))
    · intro n i s hi hs K
      obtain ⟨x, l⟩ := s
      obtain ⟨h1, h2⟩ := hs
      dsimp only at h1 h2 K ⊢
      subst h1
      refine pk_le N i (fun w => absurd w (by omega)) (fun _ => ⟨pk_in i 18 (by omega), ?_⟩)
      rw [nI_clamp (by omega)]
      refine bI_br (hM i hi) (fun f => nm_r (nI_1 i) (K (nI (0 + ct_c M i), l) ⟨by dsimp only; rw [ct_nf f], ?_⟩)) (fun f => ?_)
      · dsimp only
        rw [lm_f f]
        exact h2
      · have lt := ct_lt hi f
        refine pk_le 8 (0 + ct_c M i) (fun w => absurd w (by omega)) (fun _ => ?_)
        refine xa_fac E T (q := lm_l (nd_X al N) M (on_e : Nat → F) i) (d := 0 + ct_c M i) (m := N - 1 - i) (by omega) (by omega) (lm_dg (fun t ht => on_s ht) i) h2 ?_ ?_
        · show nI N - nI 1 - nI i = _
          rw [pk_sub (by omega), pk_sub (by omega)]
        · intro l' hl'
          refine nm_r (nI_1 _) (nm_r (nI_1 i) (K (nI (0 + ct_c M i + 1), l') ⟨by dsimp only; rw [ct_nt f]; rfl, ?_⟩))
          dsimp only
          rw [lm_t f]
          exact hl'
  · intro n i s hi hs K h1
    have K := fun s' a => K s' a (by omega)
    refine pk_lt 8 i (fun w => absurd w (by omega)) (fun _ => ⟨pk_in i 9 (by omega), nm_e (nm_r (nI_1 i) (K _ ?_))⟩)
    intro t ht
    rw [nI_clamp (by omega)]
    by_cases e : t = i
    · subst e; rw [pk_us, on_s (by omega), em_0 E]
    · rw [pk_un e]; exact hs t (by omega)
theorem xm_modified {F : Type} [Lean.Grind.Field F] [Lean.Grind.IsCharP F 2] {em : F → Int32} {al : F} (E : em_P em al) {post : SX → Prop} (T : tb_T em al a_powers a_logs) {L S : Nat → F} {p : Nat} (hp : p ≤ 8) (hL : ∀ t, t < 9 → a_locator t = em (L t)) (hS : ∀ j, j < p → a_syndromes j = em (S j)) (h : ∀ a, (∀ t, t < p → a t = em (cv_c L S t)) → post (nI p, f_k, f_b, f_messageLength, f_sentLength, f_receivedLength, f_resultStatus, f_deliveredLength, f_errorCount, f_erasureCount, a_powers, a_logs, a_generator, a_message, a_sent, a_received, a_flags, a_delivered, a_changes, a_locator, a_syndromes, a, a_evaluator, a_register, a_previous, a_saved, a_located)) : wpX_multiplyBySyndromes__modified post (nI p, f_k, f_b, f_messageLength, f_sentLength, f_receivedLength, f_resultStatus, f_deliveredLength, f_errorCount, f_erasureCount, a_powers, a_logs, a_generator, a_message, a_sent, a_received, a_flags, a_delivered, a_changes, a_locator, a_syndromes, a_modified, a_evaluator, a_register, a_previous, a_saved, a_located) := by
  refine pk_loop (fun n i s => wX_multiplyBySyndromes__modified_2 post (nI p) f_k f_b f_messageLength f_sentLength f_receivedLength f_resultStatus f_deliveredLength f_errorCount f_erasureCount n (nI i) a_powers a_logs a_generator a_message a_sent a_received a_flags a_delivered a_changes a_locator a_syndromes s a_evaluator a_register a_previous a_saved a_located) (fun i s => ∀ t, t < i → s t = em (cv_c L S t)) p 0 a_modified (by omega) (fun j hj => absurd hj (by omega)) ?_ ?_
  · intro n s hs
    exact pk_le p p (fun _ => h s hs) (fun q => absurd q (by omega))
  · intro n i s hi hs K
    refine pk_le p i (fun q => absurd q (by omega)) (fun _ => ?_)
    refine pk_loop (fun m l v => wX_multiplyBySyndromes__modified_15 post (wX_multiplyBySyndromes__modified_2 post (nI p) f_k f_b f_messageLength f_sentLength f_receivedLength f_resultStatus f_deliveredLength f_errorCount f_erasureCount n) (nI i) (nI p) f_k f_b f_messageLength f_sentLength f_receivedLength f_resultStatus f_deliveredLength f_errorCount f_erasureCount a_powers a_logs a_generator a_message a_sent a_received a_flags a_delivered a_changes a_locator a_syndromes s a_evaluator a_register a_previous a_saved a_located m v (nI l)) (fun l v => v = em (sm_s (fun l => L l * S (i - l)) l)) (i + 1) 0 0 (by omega) (em_0 E).symm ?_ ?_
    · intro m v hv
      refine pk_lt i (i + 1) (fun _ => ⟨pk_in i 8 (by omega), nm_e (nm_r (nI_1 i) (K _ ?_))⟩) (fun q => absurd q (by omega))
      intro t ht
      rw [nI_clamp (by omega)]
      by_cases e : t = i
      · subst e; rw [pk_us, hv]; rfl
      · rw [pk_un e]; exact hs t (by omega)
    · intro m l v hl hv K2
      refine pk_lt i l (fun q => absurd q (by omega)) (fun _ => ?_)
      rw [pk_sub (show l ≤ i by omega)]
      refine ⟨pk_in l 9 (by omega), pk_in (i - l) 8 (by omega), ?_⟩
      rw [nI_clamp (by omega), nI_clamp (by omega)]
      refine xp_product E T (L l) (S (i - l)) (hL l (by omega)) (hS _ (by omega)) (nm_e (nm_r (nI_1 l) (K2 _ ?_)))
      rw [hv, ← em_add E]
      rfl
theorem xm_evaluator {F : Type} [Lean.Grind.Field F] [Lean.Grind.IsCharP F 2] {em : F → Int32} {al : F} (E : em_P em al) {post : SX → Prop} (T : tb_T em al a_powers a_logs) {L S : Nat → F} {p : Nat} (hp : p ≤ 8) (hL : ∀ t, t < 9 → a_locator t = em (L t)) (hS : ∀ j, j < p → a_syndromes j = em (S j)) (h : ∀ a, (∀ t, t < p → a t = em (cv_c L S t)) → post (nI p, f_k, f_b, f_messageLength, f_sentLength, f_receivedLength, f_resultStatus, f_deliveredLength, f_errorCount, f_erasureCount, a_powers, a_logs, a_generator, a_message, a_sent, a_received, a_flags, a_delivered, a_changes, a_locator, a_syndromes, a_modified, a, a_register, a_previous, a_saved, a_located)) : wpX_multiplyBySyndromes__evaluator post (nI p, f_k, f_b, f_messageLength, f_sentLength, f_receivedLength, f_resultStatus, f_deliveredLength, f_errorCount, f_erasureCount, a_powers, a_logs, a_generator, a_message, a_sent, a_received, a_flags, a_delivered, a_changes, a_locator, a_syndromes, a_modified, a_evaluator, a_register, a_previous, a_saved, a_located) := by
  refine pk_loop (fun n i s => wX_multiplyBySyndromes__evaluator_2 post (nI p) f_k f_b f_messageLength f_sentLength f_receivedLength f_resultStatus f_deliveredLength f_errorCount f_erasureCount n (nI i) a_powers a_logs a_generator a_message a_sent a_received a_flags a_delivered a_changes a_locator a_syndromes a_modified s a_register a_previous a_saved a_located) (fun i s => ∀ t, t < i → s t = em (cv_c L S t)) p 0 a_evaluator (by omega) (fun j hj => absurd hj (by omega)) ?_ ?_
  · intro n s hs
    exact pk_le p p (fun _ => h s hs) (fun q => absurd q (by omega))
  · intro n i s hi hs K
    refine pk_le p i (fun q => absurd q (by omega)) (fun _ => ?_)
    refine pk_loop (fun m l v => wX_multiplyBySyndromes__evaluator_15 post (wX_multiplyBySyndromes__evaluator_2 post (nI p) f_k f_b f_messageLength f_sentLength f_receivedLength f_resultStatus f_deliveredLength f_errorCount f_erasureCount n) (nI i) (nI p) f_k f_b f_messageLength f_sentLength f_receivedLength f_resultStatus f_deliveredLength f_errorCount f_erasureCount a_powers a_logs a_generator a_message a_sent a_received a_flags a_delivered a_changes a_locator a_syndromes a_modified s a_register a_previous a_saved a_located m v (nI l)) (fun l v => v = em (sm_s (fun l => L l * S (i - l)) l)) (i + 1) 0 0 (by omega) (em_0 E).symm ?_ ?_
    · intro m v hv
      refine pk_lt i (i + 1) (fun _ => ⟨pk_in i 8 (by omega), nm_e (nm_r (nI_1 i) (K _ ?_))⟩) (fun q => absurd q (by omega))
      intro t ht
      rw [nI_clamp (by omega)]
      by_cases e : t = i
      · subst e; rw [pk_us, hv]; rfl
      · rw [pk_un e]; exact hs t (by omega)
    · intro m l v hl hv K2
      refine pk_lt i l (fun q => absurd q (by omega)) (fun _ => ?_)
      rw [pk_sub (show l ≤ i by omega)]
      refine ⟨pk_in l 9 (by omega), pk_in (i - l) 8 (by omega), ?_⟩
      rw [nI_clamp (by omega), nI_clamp (by omega)]
      refine xp_product E T (L l) (S (i - l)) (hL l (by omega)) (hS _ (by omega)) (nm_e (nm_r (nI_1 l) (K2 _ ?_)))
      rw [hv, ← em_add E]
      rfl
theorem xs_slope {F : Type} [Lean.Grind.Field F] [Lean.Grind.IsCharP F 2] {em : F → Int32} {al : F} (E : em_P em al) {post : Int32 → Prop} (T : tb_T em al a_powers a_logs) {L : Nat → F} (hL : ∀ t, t < 9 → a_locator t = em (L t)) {z : Int32} (y : F) (hz : z = em y) (h : post (em (sl_v L y))) : wpX_locatorSlope post (f_p, f_k, f_b, f_messageLength, f_sentLength, f_receivedLength, f_resultStatus, f_deliveredLength, f_errorCount, f_erasureCount, a_powers, a_logs, a_generator, a_message, a_sent, a_received, a_flags, a_delivered, a_changes, a_locator, a_syndromes, a_modified, a_evaluator, a_register, a_previous, a_saved, a_located) z := by
  unfold wpX_locatorSlope
  refine xp_product E T y y hz hz ?_
  refine ⟨5, ?_⟩
  have st : ∀ (v : F) (t n : Nat), 1 ≤ t → t < 9 → ∀ x, x = em v → wX_locatorSlope_13 post (em (y * y)) f_p f_k f_b f_messageLength f_sentLength f_receivedLength f_resultStatus f_deliveredLength f_errorCount f_erasureCount a_powers a_logs a_generator a_message a_sent a_received a_flags a_delivered a_changes a_locator a_syndromes a_modified a_evaluator a_register a_previous a_saved a_located n (em (v * (y * y) + L t)) (nI t + (-2)) → wX_locatorSlope_13 post (em (y * y)) f_p f_k f_b f_messageLength f_sentLength f_receivedLength f_resultStatus f_deliveredLength f_errorCount f_erasureCount a_powers a_logs a_generator a_message a_sent a_received a_flags a_delivered a_changes a_locator a_syndromes a_modified a_evaluator a_register a_previous a_saved a_located (n + 1) x (nI t) := by
    intro v t n h1 h9 x hx K
    refine pk_lt t 1 (fun w => absurd w (by omega)) (fun _ => ?_)
    refine xp_product E T v (y * y) hx rfl ⟨pk_in t 9 (by omega), nm_r ?_ (nm_e K)⟩
    rw [nI_clamp (by omega), hL t h9, em_add E]
  refine st 0 7 4 (by omega) (by omega) 0 (em_0 E).symm ?_
  refine st _ 5 3 (by omega) (by omega) _ rfl ?_
  refine st _ 3 2 (by omega) (by omega) _ rfl ?_
  refine st _ 1 1 (by omega) (by omega) _ rfl ?_
  exact br_t (by decide) h
end
end
section
/-! the component's shift-register synthesis -/
section
variable {f_p f_k f_b f_messageLength f_sentLength f_receivedLength f_resultStatus f_deliveredLength f_errorCount f_erasureCount : Int32} {a_powers a_logs a_generator a_message a_sent a_received a_flags a_delivered a_changes a_locator a_syndromes a_modified a_evaluator a_register a_previous a_saved a_located : Nat → Int32}
theorem xb_gap {F : Type} [Lean.Grind.Field F] [Lean.Grind.IsCharP F 2] {em : F → Int32} {al : F} (E : em_P em al) {post : Int32 → Prop} (T : tb_T em al a_powers a_logs) {rg md : Nat → F} {off n sz q : Nat} (hq : q ≤ 8) (hn : off + n < q) (hs : sz ≤ n) (hr : ∀ t, t < 9 → a_register t = em (rg t)) (hm : ∀ t, t < q → a_modified t = em (md t)) (h : post (em (bm_gap (fun n => md (off + n)) n sz rg))) : wpX_discrepancy post (f_p, f_k, f_b, f_messageLength, f_sentLength, f_receivedLength, f_resultStatus, f_deliveredLength, f_errorCount, f_erasureCount, a_powers, a_logs, a_generator, a_message, a_sent, a_received, a_flags, a_delivered, a_changes, a_locator, a_syndromes, a_modified, a_evaluator, a_register, a_previous, a_saved, a_located) (nI off) (nI n) (nI sz) := by
  refine pk_loop (fun m l v => wX_discrepancy_6 post (nI off) (nI n) (nI sz) f_p f_k f_b f_messageLength f_sentLength f_receivedLength f_resultStatus f_deliveredLength f_errorCount f_erasureCount a_powers a_logs a_generator a_message a_sent a_received a_flags a_delivered a_changes a_locator a_syndromes a_modified a_evaluator a_register a_previous a_saved a_located m v (nI l)) (fun l v => v = em (sm_s (fun l => rg l * md (off + (n - l))) l)) (sz + 1) 0 0 (by omega) (em_0 E).symm ?_ ?_
  · intro m v hv
    refine pk_lt sz (sz + 1) (fun _ => ?_) (fun w => absurd w (by omega))
    rw [hv]
    exact h
  · intro m l v hl hv K
    refine pk_lt sz l (fun w => absurd w (by omega)) (fun _ => pk_lt n l (fun w => absurd w (by omega)) (fun _ => ?_))
    rw [nI_add, pk_sub (show l ≤ off + n by omega)]
    refine ⟨pk_in l 9 (by omega), pk_in (off + n - l) 8 (by omega), ?_⟩
    rw [nI_clamp (by omega), nI_clamp (by omega)]
    refine xp_product E T (rg l) (md (off + (n - l))) (hr l (by omega)) (by rw [hm _ (by omega), show off + n - l = off + (n - l) by omega]) (nm_e (nm_r (nI_1 l) (K _ ?_)))
    rw [hv, ← em_add E]
    rfl
theorem xb_191 {post : Int32 → SX → Prop} {J : Int32 → Int32 → Int32 → Int32 → (Nat → Int32) → (Nat → Int32) → (Nat → Int32) → (Nat → Int32) → (Nat → Int32) → (Nat → Int32) → (Nat → Int32) → (Nat → Int32) → (Nat → Int32) → (Nat → Int32) → (Nat → Int32) → (Nat → Int32) → (Nat → Int32) → (Nat → Int32) → (Nat → Int32) → (Nat → Int32) → (Nat → Int32) → Prop} {x1 x2 x7 : Int32} {sz n : Nat} (hs : sz ≤ n + 1) (hJ : ∀ a, (∀ t, t < 9 → a t = a_saved t) → J (nI (n + 1 - sz)) 1 x7 (nI (n + 1)) a_powers a_logs a_generator a_message a_sent a_received a_flags a_delivered a_changes a_locator a_syndromes a_modified a_evaluator a_register a a_saved a_located) : ∃ m, wX_synthesise_191 post J x1 x2 (nI sz) (nI n) x7 f_p f_k f_b f_messageLength f_sentLength f_receivedLength f_resultStatus f_deliveredLength f_errorCount f_erasureCount m 0 a_powers a_logs a_generator a_message a_sent a_received a_flags a_delivered a_changes a_locator a_syndromes a_modified a_evaluator a_register a_previous a_saved a_located := by
  refine pk_loop (fun m l a => wX_synthesise_191 post J x1 x2 (nI sz) (nI n) x7 f_p f_k f_b f_messageLength f_sentLength f_receivedLength f_resultStatus f_deliveredLength f_errorCount f_erasureCount m (nI l) a_powers a_logs a_generator a_message a_sent a_received a_flags a_delivered a_changes a_locator a_syndromes a_modified a_evaluator a_register a a_saved a_located) (fun l a => ∀ t, t < l → a t = a_saved t) 9 0 a_previous (by omega) (fun t ht => absurd ht (by omega)) ?_ ?_
  · intro m a ha
    refine pk_lt 8 9 (fun _ => nm_r (e' := nI (n + 1 - sz)) (by rw [nI_1, pk_sub hs]) (nm_r (nI_1 n) (hJ a ha))) (fun w => absurd w (by omega))
  · intro m l a hl ha K
    refine pk_lt 8 l (fun w => absurd w (by omega)) (fun _ => ⟨pk_in l 9 (by omega), pk_in l 9 (by omega), nm_e (nm_r (nI_1 l) (K _ ?_))⟩)
    intro t ht
    rw [nI_clamp (by omega)]
    by_cases e : t = l
    · subst e; exact pk_us
    · rw [pk_un e]; exact ha t (by omega)
theorem xb_144 {F : Type} [Lean.Grind.Field F] [Lean.Grind.IsCharP F 2] {em : F → Int32} {al : F} (E : em_P em al) {post : Int32 → SX → Prop} (T : tb_T em al a_powers a_logs) {J : Int32 → Int32 → Int32 → Int32 → (Nat → Int32) → (Nat → Int32) → (Nat → Int32) → (Nat → Int32) → (Nat → Int32) → (Nat → Int32) → (Nat → Int32) → (Nat → Int32) → (Nat → Int32) → (Nat → Int32) → (Nat → Int32) → (Nat → Int32) → (Nat → Int32) → (Nat → Int32) → (Nat → Int32) → (Nat → Int32) → (Nat → Int32) → Prop} {x1 x2 x3 x5 x6 x7 x9 : Int32} {f : F} {rg pv : Nat → F} {sh : Nat} (hsh : sh ≤ 9) (hr : ∀ t, t < 9 → a_register t = em (rg t)) (hp : ∀ t, t < 9 → a_previous t = em (pv t)) (hJ : ∀ r, (∀ t, t < 9 → r t = em (bm_reg f sh rg pv t)) → ((x9 = 0 → J x3 (nI (sh + 1)) x5 (x6 + 1) a_powers a_logs a_generator a_message a_sent a_received a_flags a_delivered a_changes a_locator a_syndromes a_modified a_evaluator r a_previous a_saved a_located) ∧ (¬ x9 = 0 → ∃ m, wX_synthesise_191 post J x1 x2 x3 x6 x7 f_p f_k f_b f_messageLength f_sentLength f_receivedLength f_resultStatus f_deliveredLength f_errorCount f_erasureCount m 0 a_powers a_logs a_generator a_message a_sent a_received a_flags a_delivered a_changes a_locator a_syndromes a_modified a_evaluator r a_previous a_saved a_located))) : ∃ m, wX_synthesise_144 post J x1 x2 x3 (nI sh) x5 x6 x7 (em f) x9 f_p f_k f_b f_messageLength f_sentLength f_receivedLength f_resultStatus f_deliveredLength f_errorCount f_erasureCount m (nI sh) a_powers a_logs a_generator a_message a_sent a_received a_flags a_delivered a_changes a_locator a_syndromes a_modified a_evaluator a_register a_previous a_saved a_located := by
  refine pk_loop (fun m l a => sh ≤ l → wX_synthesise_144 post J x1 x2 x3 (nI sh) x5 x6 x7 (em f) x9 f_p f_k f_b f_messageLength f_sentLength f_receivedLength f_resultStatus f_deliveredLength f_errorCount f_erasureCount m (nI l) a_powers a_logs a_generator a_message a_sent a_received a_flags a_delivered a_changes a_locator a_syndromes a_modified a_evaluator a a_previous a_saved a_located) (fun l a => ∀ t, t < 9 → a t = em (if sh ≤ t ∧ t < l then rg t + f * pv (t - sh) else rg t)) 9 sh a_register (by omega) ?_ ?_ ?_ |> Exists.imp (fun m hm => hm (Nat.le_refl _))
  · intro t ht
    rw [if_neg (by omega), hr t ht]
  · intro m a ha _
    have k := hJ a (by
      intro t ht
      rw [ha t ht]
      unfold bm_reg
      by_cases w : sh ≤ t
      · rw [if_pos ⟨w, ht⟩, if_pos ⟨w, by omega⟩]
      · rw [if_neg (fun q => w q.1), if_neg (fun q => w q.1)])
    refine pk_lt 8 9 (fun _ => br_c (fun z => nm_r (nI_1 sh) (nm_e (k.1 z))) (fun z => k.2 z)) (fun w => absurd w (by omega))
  · intro m l a hl ha K hsl
    have K := fun s' b => K s' b (by omega)
    refine pk_lt 8 l (fun w => absurd w (by omega)) (fun _ => ?_)
    rw [pk_sub hsl]
    refine ⟨pk_in l 9 (by omega), pk_in (l - sh) 9 (by omega), ?_⟩
    rw [nI_clamp (by omega), nI_clamp (by omega)]
    refine xp_product E T f (pv (l - sh)) rfl (hp _ (by omega)) ⟨pk_in l 9 (by omega), nm_e (nm_r (nI_1 l) (K _ ?_))⟩
    intro t ht
    by_cases e : t = l
    · subst e
      rw [pk_us, if_pos ⟨hsl, by omega⟩, ha t ht, if_neg (by omega), em_add E]
    · rw [pk_un e, ha t ht]
      by_cases w : sh ≤ t ∧ t < l
      · rw [if_pos w, if_pos ⟨w.1, by omega⟩]
      · rw [if_neg w, if_neg (by omega)]
theorem xb_103 {F : Type} [Lean.Grind.Field F] [Lean.Grind.IsCharP F 2] {em : F → Int32} {al : F} (E : em_P em al) {post : Int32 → SX → Prop} (T : tb_T em al a_powers a_logs) {J : Int32 → Int32 → Int32 → Int32 → (Nat → Int32) → (Nat → Int32) → (Nat → Int32) → (Nat → Int32) → (Nat → Int32) → (Nat → Int32) → (Nat → Int32) → (Nat → Int32) → (Nat → Int32) → (Nat → Int32) → (Nat → Int32) → (Nat → Int32) → (Nat → Int32) → (Nat → Int32) → (Nat → Int32) → (Nat → Int32) → (Nat → Int32) → Prop} {x1 x2 x5 x7 : Int32} {f : F} {rg pv : Nat → F} {sz sh n : Nat} (hs : sz ≤ n + 1) (hsh : sh ≤ 9) (hr : ∀ t, t < 9 → a_register t = em (rg t)) (hp : ∀ t, t < 9 → a_previous t = em (pv t)) :
    ((∀ r, (∀ t, t < 9 → r t = em (bm_reg f sh rg pv t)) → J (nI sz) (nI (sh + 1)) x5 (nI (n + 1)) a_powers a_logs a_generator a_message a_sent a_received a_flags a_delivered a_changes a_locator a_syndromes a_modified a_evaluator r a_previous a_saved a_located) → wX_synthesise_103 post J x1 x2 (nI sz) (nI sh) x5 (nI n) x7 (em f) 0 f_p f_k f_b f_messageLength f_sentLength f_receivedLength f_resultStatus f_deliveredLength f_errorCount f_erasureCount a_powers a_logs a_generator a_message a_sent a_received a_flags a_delivered a_changes a_locator a_syndromes a_modified a_evaluator a_register a_previous a_saved a_located) ∧
    ((∀ r a b, (∀ t, t < 9 → r t = em (bm_reg f sh rg pv t)) → (∀ t, t < 9 → a t = em (rg t)) → J (nI (n + 1 - sz)) 1 x7 (nI (n + 1)) a_powers a_logs a_generator a_message a_sent a_received a_flags a_delivered a_changes a_locator a_syndromes a_modified a_evaluator r a b a_located) → wX_synthesise_103 post J x1 x2 (nI sz) (nI sh) x5 (nI n) x7 (em f) 1 f_p f_k f_b f_messageLength f_sentLength f_receivedLength f_resultStatus f_deliveredLength f_errorCount f_erasureCount a_powers a_logs a_generator a_message a_sent a_received a_flags a_delivered a_changes a_locator a_syndromes a_modified a_evaluator a_register a_previous a_saved a_located) := by
  constructor
  · intro h
    refine br_t rfl (xb_144 E T hsh hr hp (fun r hr' => br_t rfl ?_))
    rw [nI_1]
    exact h r hr'
  · intro h
    refine br_f (by decide) ?_
    refine pk_loop (fun m l b => wX_synthesise_113 post J x1 x2 (nI sz) (nI sh) x5 (nI n) x7 (em f) 1 f_p f_k f_b f_messageLength f_sentLength f_receivedLength f_resultStatus f_deliveredLength f_errorCount f_erasureCount m (nI l) a_powers a_logs a_generator a_message a_sent a_received a_flags a_delivered a_changes a_locator a_syndromes a_modified a_evaluator a_register a_previous b a_located) (fun l b => ∀ t, t < l → b t = em (rg t)) 9 0 a_saved (by omega) (fun t ht => absurd ht (by omega)) ?_ ?_
    · intro m b hb
      refine pk_lt 8 9 (fun _ => ?_) (fun w => absurd w (by omega))
      refine xb_144 E T hsh hr hp (fun r hr' => br_f (by decide) ?_)
      exact xb_191 hs (fun a ha => h r a b hr' (fun t ht => by rw [ha t ht, hb t ht]))
    · intro m l b hl hb K
      refine pk_lt 8 l (fun w => absurd w (by omega)) (fun _ => ⟨pk_in l 9 (by omega), pk_in l 9 (by omega), nm_e (nm_r (nI_1 l) (K _ ?_))⟩)
      intro t ht
      rw [nI_clamp (by omega)]
      by_cases e : t = l
      · subst e; rw [pk_us, hr t (by omega)]
      · rw [pk_un e]; exact hb t (by omega)
/-- what the loop keeps after n steps -/
def xb_I {F : Type} [Lean.Grind.Field F] (em : F → Int32) (md : Nat → F) (n : Nat) (s : Int32 × Int32 × Int32 × (Nat → Int32) × (Nat → Int32) × (Nat → Int32)) : Prop :=
  s.1 = nI (bm_st md n).1 ∧ s.2.1 = nI (bm_st md n).2.1 ∧ s.2.2.1 = em (bm_st md n).2.2.1 ∧ (∀ t, t < 9 → s.2.2.2.1 t = em ((bm_st md n).2.2.2.1 t)) ∧ ∀ t, t < 9 → s.2.2.2.2.1 t = em ((bm_st md n).2.2.2.2 t)
theorem xb_53 {F : Type} [Lean.Grind.Field F] [Lean.Grind.IsCharP F 2] {em : F → Int32} {al : F} (E : em_P em al) {post : Int32 → SX → Prop} (T : tb_T em al a_powers a_logs) {md : Nat → F} {off c q : Nat} (hq : q ≤ 8) (hc : off + c ≤ q) (hm : ∀ t, t < q → a_modified t = em (md t)) (s : Int32 × Int32 × Int32 × (Nat → Int32) × (Nat → Int32) × (Nat → Int32)) (hs : xb_I em (fun n => md (off + n)) 0 s)
    (h : ∀ r a b, (∀ t, t < 9 → r t = em ((bm_st (fun n => md (off + n)) c).2.2.2.1 t)) → post (nI (bm_st (fun n => md (off + n)) c).1) (f_p, f_k, f_b, f_messageLength, f_sentLength, f_receivedLength, f_resultStatus, f_deliveredLength, f_errorCount, f_erasureCount, a_powers, a_logs, a_generator, a_message, a_sent, a_received, a_flags, a_delivered, a_changes, a_locator, a_syndromes, a_modified, a_evaluator, r, a, b, a_located)) : ∃ m, wX_synthesise_53 post (nI off) (nI c) f_p f_k f_b f_messageLength f_sentLength f_receivedLength f_resultStatus f_deliveredLength f_errorCount f_erasureCount m s.1 s.2.1 s.2.2.1 0 a_powers a_logs a_generator a_message a_sent a_received a_flags a_delivered a_changes a_locator a_syndromes a_modified a_evaluator (s.2.2.2.1) (s.2.2.2.2.1) (s.2.2.2.2.2) a_located := by
  refine pk_loop (fun m l s => wX_synthesise_53 post (nI off) (nI c) f_p f_k f_b f_messageLength f_sentLength f_receivedLength f_resultStatus f_deliveredLength f_errorCount f_erasureCount m s.1 s.2.1 s.2.2.1 (nI l) a_powers a_logs a_generator a_message a_sent a_received a_flags a_delivered a_changes a_locator a_syndromes a_modified a_evaluator (s.2.2.2.1) (s.2.2.2.2.1) (s.2.2.2.2.2) a_located) (fun l s => xb_I em (fun n => md (off + n)) l s) c 0 s (by omega) hs ?_ ?_
  · intro m s hs
    refine pk_le c c (fun _ => ?_) (fun w => absurd w (by omega))
    rw [hs.1]
    exact h _ _ _ hs.2.2.2.1
  · intro m n s hn hs K
    obtain ⟨x3, x4, x5, r, a, b⟩ := s
    have B := bm_any (fun n => md (off + n)) n
    have N : bm_st (fun n => md (off + n)) (n + 1) = bm_step (fun n => md (off + n)) n (bm_st (fun n => md (off + n)) n) := rfl
    unfold xb_I at hs K
    rw [N] at K
    generalize bm_st (fun n => md (off + n)) n = st at hs B K
    obtain ⟨sz, sh, pg, rg, pv⟩ := st
    dsimp only at hs B K ⊢
    obtain ⟨h1, h2, h3, h4, h5⟩ := hs
    obtain ⟨b1, b2, b3, b4⟩ := B
    subst h1 h2 h3
    refine pk_le c n (fun w => absurd w (by omega)) (fun _ => ?_)
    refine xb_gap E T hq (by omega) b1 h4 hm ?_
    by_cases g0 : bm_gap (fun n => md (off + n)) n sz rg = 0
    · refine br_t ((em_z E).mpr g0) (nm_r (nI_1 sh) (nm_r (nI_1 n) (K (nI sz, nI (sh + 1), em pg, r, a, b) ?_)))
      rw [bm_s0 g0]
      exact ⟨rfl, rfl, rfl, h4, h5⟩
    · refine br_f (em_nz E g0) ?_
      refine xp_quotient E T _ pg rfl rfl ?_
      have z2 : (2 : Int32) * nI sz = nI (2 * sz) := pk_mul 2 sz
      rw [z2]
      have L := fun J => xb_103 E T (post := post) (J := J) (x1 := nI off) (x2 := nI c) (x5 := em pg) (x7 := em (bm_gap (fun n => md (off + n)) n sz rg)) (f := bm_gap (fun n => md (off + n)) n sz rg * pg⁻¹) (rg := rg) (pv := pv) (sz := sz) (sh := sh) (n := n) (a_register := r) (a_previous := a) (a_saved := b) (f_p := f_p) (f_k := f_k) (f_b := f_b) (f_messageLength := f_messageLength) (f_sentLength := f_sentLength) (f_receivedLength := f_receivedLength) (f_resultStatus := f_resultStatus) (f_deliveredLength := f_deliveredLength) (f_errorCount := f_errorCount) (f_erasureCount := f_erasureCount) (a_generator := a_generator) (a_message := a_message) (a_sent := a_sent) (a_received := a_received) (a_flags := a_flags) (a_delivered := a_delivered) (a_changes := a_changes) (a_locator := a_locator) (a_syndromes := a_syndromes) (a_modified := a_modified) (a_evaluator := a_evaluator) (a_located := a_located) (by omega) (by omega) h4 h5
      refine pk_lt n (2 * sz) (fun w => (L _).1 (fun r' hr' => K (nI sz, nI (sh + 1), em pg, r', a, b) ?_)) (fun w => (L _).2 (fun r' a' b' hr' ha' => K (nI (n + 1 - sz), 1, em (bm_gap (fun n => md (off + n)) n sz rg), r', a', b') ?_))
      · rw [bm_sn g0 (by omega)]
        exact ⟨rfl, rfl, rfl, hr', h5⟩
      · rw [bm_sg g0 w]
        exact ⟨rfl, rfl, rfl, hr', ha'⟩
theorem xb_syn {F : Type} [Lean.Grind.Field F] [Lean.Grind.IsCharP F 2] {em : F → Int32} {al : F} (E : em_P em al) {post : Int32 → SX → Prop} (T : tb_T em al a_powers a_logs) {md : Nat → F} {off c q : Nat} (hq : q ≤ 8) (hc : off + c ≤ q) (hm : ∀ t, t < q → a_modified t = em (md t))
    (h : ∀ r a b, (∀ t, t < 9 → r t = em ((bm_st (fun n => md (off + n)) c).2.2.2.1 t)) → post (nI (bm_st (fun n => md (off + n)) c).1) (f_p, f_k, f_b, f_messageLength, f_sentLength, f_receivedLength, f_resultStatus, f_deliveredLength, f_errorCount, f_erasureCount, a_powers, a_logs, a_generator, a_message, a_sent, a_received, a_flags, a_delivered, a_changes, a_locator, a_syndromes, a_modified, a_evaluator, r, a, b, a_located)) : wpX_synthesise post (f_p, f_k, f_b, f_messageLength, f_sentLength, f_receivedLength, f_resultStatus, f_deliveredLength, f_errorCount, f_erasureCount, a_powers, a_logs, a_generator, a_message, a_sent, a_received, a_flags, a_delivered, a_changes, a_locator, a_syndromes, a_modified, a_evaluator, a_register, a_previous, a_saved, a_located) (nI off) (nI c) := by
  refine pk_loop (σ := (Nat → Int32) × (Nat → Int32)) (fun m l s => wX_synthesise_2 post (nI off) (nI c) f_p f_k f_b f_messageLength f_sentLength f_receivedLength f_resultStatus f_deliveredLength f_errorCount f_erasureCount m (nI l) a_powers a_logs a_generator a_message a_sent a_received a_flags a_delivered a_changes a_locator a_syndromes a_modified a_evaluator (s.1) (s.2) a_saved a_located) (fun l s => ∀ t, t < l → s.1 t = 0 ∧ s.2 t = 0) 9 0 (a_register, a_previous) (by omega) (fun t ht => absurd ht (by omega)) ?_ ?_
  · intro m s hs
    refine pk_lt 8 9 (fun _ => nm_e (nm_e ?_)) (fun w => absurd w (by omega))
    have o : ∀ t, t < 9 → upd s.1 0 1 t = em ((on_e : Nat → F) t) ∧ upd s.2 0 1 t = em ((on_e : Nat → F) t) := by
      intro t ht
      by_cases e : t = 0
      · subst e; rw [pk_us, pk_us, on_0, em_1 E]; exact ⟨rfl, rfl⟩
      · rw [pk_un e, pk_un e, on_s (by omega), em_0 E]; exact hs t ht
    exact xb_53 E T hq hc hm (0, 1, 1, upd s.1 0 1, upd s.2 0 1, a_saved) ⟨rfl, rfl, (em_1 E).symm, fun t ht => (o t ht).1, fun t ht => (o t ht).2⟩ h
  · intro m l s hl hs K
    have e1 : (nI l).toNatClampNeg = l := nI_clamp (by omega)
    refine pk_lt 8 l (fun w => absurd w (by omega)) (fun _ => ⟨pk_in l 9 (by omega), nm_r (e' := upd s.1 l 0) (by rw [e1]) ⟨pk_in l 9 (by omega), nm_r (e' := upd s.2 l 0) (by rw [e1]) (nm_r (nI_1 l) (K (upd s.1 l 0, upd s.2 l 0) ?_))⟩⟩)
    intro t ht
    show upd s.1 l 0 t = 0 ∧ upd s.2 l 0 t = 0
    by_cases e : t = l
    · subst e; exact ⟨pk_us, pk_us⟩
    · rw [pk_un e, pk_un e]; exact hs t (by omega)
end
end
section
/-! the component's search, Forney's values, last check -/
def nd_y {F : Type} [Lean.Grind.Field F] (al : F) (N : Nat) : Nat → F := fun i => ae_e al ((i : Int) + 1 - (N : Int))
theorem nd_xy {F : Type} [Lean.Grind.Field F] [Lean.Grind.IsCharP F 2] {em : F → Int32} {al : F} (E : em_P em al) {N i : Nat} (h : i < N) : nd_X al N i * nd_y al N i = 1 := by
  unfold nd_X nd_y
  rw [← ae_n E, ← ae_a E, show ((N - 1 - i : Nat) : Int) + ((i : Int) + 1 - (N : Int)) = 0 by omega, ae_0 E]
theorem nd_inj {F : Type} [Lean.Grind.Field F] [Lean.Grind.IsCharP F 2] {em : F → Int32} {al : F} (E : em_P em al) {N : Nat} (hN : N ≤ 18) (i j : Nat) (hi : i < N) (hj : j < N) (h : nd_X al N i = nd_X al N j) : i = j := by
  have := em_ai E (show N - 1 - i < 255 by omega) (show N - 1 - j < 255 by omega) h
  omega
theorem nd_yinj {F : Type} [Lean.Grind.Field F] [Lean.Grind.IsCharP F 2] {em : F → Int32} {al : F} (E : em_P em al) {N : Nat} (hN : N ≤ 18) (i j : Nat) (hi : i < N) (hj : j < N) (h : nd_y al N i = nd_y al N j) : i = j := by
  have a := nd_xy E hi
  have b := nd_xy E hj
  apply nd_inj E hN i j hi hj
  rw [h] at a
  have : nd_X al N i = nd_X al N i * (nd_X al N j * nd_y al N j) := by rw [b]; grind
  rw [this]
  have : nd_X al N i * (nd_X al N j * nd_y al N j) = nd_X al N j * (nd_X al N i * nd_y al N j) := by grind
  rw [this, a]; grind
theorem nd_0 {F : Type} [Lean.Grind.Field F] [Lean.Grind.IsCharP F 2] {em : F → Int32} {al : F} (E : em_P em al) (N i : Nat) : nd_X al N i ≠ 0 := fz_p (al_nz E) _
/-- the weights of the cells -/
def nd_B {F : Type} [Lean.Grind.Field F] (al : F) (N b : Nat) : Nat → F := fun i => nd_X al N i ^ b
theorem nd_B0 {F : Type} [Lean.Grind.Field F] [Lean.Grind.IsCharP F 2] {em : F → Int32} {al : F} (E : em_P em al) (N b i : Nat) : nd_B al N b i ≠ 0 := fz_p (nd_0 E N i) _
theorem nd_syn {F : Type} [Lean.Grind.Field F] [Lean.Grind.IsCharP F 2] {em : F → Int32} {al : F} (E : em_P em al) (N b : Nat) (w : Nat → F) (j : Nat) : hv_h w (al ^ (b + j)) N = sy_s N (nd_B al N b) (nd_X al N) w j := by
  rw [hv_sum]
  unfold sy_s
  apply sm_congr
  intro i _
  unfold nd_B nd_X
  rw [← pw_p, Nat.mul_comm, pw_p]
  rw [pw_a (al ^ (N - 1 - i)) b j]
  grind
theorem sy_add {F : Type} [Lean.Grind.Field F] (N : Nat) (B X w v : Nat → F) (j : Nat) : sy_s N B X (fun i => w i + v i) j = sy_s N B X w j + sy_s N B X v j := by
  unfold sy_s
  rw [← sm_add]
  exact sm_congr (fun i _ => by grind)
theorem sy_congr {F : Type} [Lean.Grind.Field F] {N : Nat} {B X w v : Nat → F} (h : ∀ i, i < N → w i = v i) (j : Nat) : sy_s N B X w j = sy_s N B X v j :=
  sm_congr (fun i hi => by rw [h i hi])
theorem nd_sc {F : Type} [Lean.Grind.Field F] [Lean.Grind.IsCharP F 2] {em : F → Int32} {al : F} (E : em_P em al) (m b : Nat) : ae_e al ((m : Int) * (1 - (b : Int))) = al ^ m * ((al ^ m) ^ b)⁻¹ := by
  have e : (m : Int) * (1 - (b : Int)) = (m : Int) + (-((m * b : Nat) : Int)) := by
    rw [Int.mul_sub, Int.mul_one, Int.natCast_mul]; omega
  rw [e, ae_a E, ae_n E, ← pw_p]
  have i := ae_neg E ((m * b : Nat) : Int)
  rw [ae_n E] at i
  have j : ae_e al (-((m * b : Nat) : Int)) * al ^ (m * b) = 1 := by grind
  rw [Lean.Grind.Field.eq_inv_of_mul_eq_one j]
theorem nd_sct {m b : Nat} (hm : m ≤ 17) (hb : b ≤ 254) : (nI m * (1 - nI b)).toInt = (m : Int) * (1 - (b : Int)) := by
  have a : ((1 : Int32) - nI b).toInt = 1 - (b : Int) := pk_sub_toInt (a := 1) (b := b) (by omega) (by omega)
  have e : (m : Int) * (1 - (b : Int)) = (m : Int) - ((m * b : Nat) : Int) := by
    rw [Int.mul_sub, Int.mul_one, Int.natCast_mul]
  have l : m * b ≤ 17 * 254 := Nat.mul_le_mul hm hb
  rw [Int32.toInt_mul, a, nI_toInt (by omega), e]
  exact Int.bmod_eq_of_le (by omega) (by omega)
section
variable {f_p f_k f_b f_messageLength f_sentLength f_receivedLength f_resultStatus f_deliveredLength f_errorCount f_erasureCount : Int32} {a_powers a_logs a_generator a_message a_sent a_received a_flags a_delivered a_changes a_locator a_syndromes a_modified a_evaluator a_register a_previous a_saved a_located : Nat → Int32}
theorem xf_find {F : Type} [Lean.Grind.Field F] [Lean.Grind.IsCharP F 2] {em : F → Int32} {al : F} (E : em_P em al) {post : Int32 → SX → Prop} (T : tb_T em al a_powers a_logs) {rg : Nat → F} {N sz : Nat} {fl : Nat → Bool} (hN : N ≤ 18) (hs : sz ≤ 8) (hr : ∀ t, t < 9 → a_register t = em (rg t)) (hf : ∀ i, i < N → a_flags i = bI_b (fl i))
    (h1 : ∀ lc, (∀ i, i < N → lc i = bI_b (!fl i && !nz_b (ev_l rg (sz + 1) (nd_y al N i)))) → ct_c (fun i => !fl i && !nz_b (ev_l rg (sz + 1) (nd_y al N i))) N = sz → post 1 (f_p, f_k, f_b, f_messageLength, f_sentLength, nI N, f_resultStatus, f_deliveredLength, f_errorCount, f_erasureCount, a_powers, a_logs, a_generator, a_message, a_sent, a_received, a_flags, a_delivered, a_changes, a_locator, a_syndromes, a_modified, a_evaluator, a_register, a_previous, a_saved, lc))
    (h0 : ∀ lc, ct_c (fun i => !fl i && !nz_b (ev_l rg (sz + 1) (nd_y al N i))) N ≠ sz → post 0 (f_p, f_k, f_b, f_messageLength, f_sentLength, nI N, f_resultStatus, f_deliveredLength, f_errorCount, f_erasureCount, a_powers, a_logs, a_generator, a_message, a_sent, a_received, a_flags, a_delivered, a_changes, a_locator, a_syndromes, a_modified, a_evaluator, a_register, a_previous, a_saved, lc)) : wpX_findErrors post (f_p, f_k, f_b, f_messageLength, f_sentLength, nI N, f_resultStatus, f_deliveredLength, f_errorCount, f_erasureCount, a_powers, a_logs, a_generator, a_message, a_sent, a_received, a_flags, a_delivered, a_changes, a_locator, a_syndromes, a_modified, a_evaluator, a_register, a_previous, a_saved, a_located) (nI sz) := by
  refine pk_loop (σ := Int32 × (Nat → Int32)) (fun n i s => wX_findErrors_4 post (nI sz) f_p f_k f_b f_messageLength f_sentLength (nI N) f_resultStatus f_deliveredLength f_errorCount f_erasureCount n s.1 (nI i) a_powers a_logs a_generator a_message a_sent a_received a_flags a_delivered a_changes a_locator a_syndromes a_modified a_evaluator a_register a_previous a_saved (s.2)) (fun i s => s.1 = nI (ct_c (fun i => !fl i && !nz_b (ev_l rg (sz + 1) (nd_y al N i))) i) ∧ ∀ k, k < i → s.2 k = bI_b (!fl k && !nz_b (ev_l rg (sz + 1) (nd_y al N k)))) N 0 (0, a_located) (by omega) ⟨rfl, fun k hk => absurd hk (by omega)⟩ ?_ ?_
  · intro n s hs'
    have le := ct_le (fun i => !fl i && !nz_b (ev_l rg (sz + 1) (nd_y al N i))) N
    refine pk_le N N (fun _ => ?_) (fun w => absurd w (by omega))
    exact pk_eq (ct_c (fun i => !fl i && !nz_b (ev_l rg (sz + 1) (nd_y al N i))) N) sz (fun e => h1 _ hs'.2 e) (fun e => h0 _ e) hs'.1
  · intro n i s hi hs' K
    obtain ⟨c, lc⟩ := s
    obtain ⟨g1, g2⟩ := hs'
    dsimp only at g1 g2 K ⊢
    subst g1
    have cl : (nI i).toNatClampNeg = i := nI_clamp (by omega)
    have keep : ∀ (x : Int32) (b : Bool), x = bI_b b → b = (!fl i && !nz_b (ev_l rg (sz + 1) (nd_y al N i))) → ∀ f : Nat → Int32, (∀ k, k < i → f k = lc k) → ∀ k, k < i + 1 → upd f i x k = bI_b (!fl k && !nz_b (ev_l rg (sz + 1) (nd_y al N k))) := by
      intro x b hx hb f hf' k hk
      by_cases e : k = i
      · subst e; rw [pk_us, hx, hb]
      · rw [pk_un e, hf' k (by omega)]; exact g2 k (by omega)
    refine pk_le N i (fun w => absurd w (by omega)) (fun _ => ⟨pk_in i 18 (by omega), nm_r (e' := upd lc i 0) (by rw [cl]; rfl) ⟨pk_in i 18 (by omega), ?_⟩⟩)
    rw [cl]
    refine bI_br (hf i hi) (fun f => ?_) (fun f => nm_r (nI_1 i) (K (nI (ct_c (fun i => !fl i && !nz_b (ev_l rg (sz + 1) (nd_y al N i))) i), upd lc i 0) ⟨?_, keep 0 false rfl (by rw [f]; rfl) lc (fun _ _ => rfl)⟩))
    · refine xp_power E T ((i : Int) + 1 - (N : Int)) (by rw [nI_1, pk_sub_toInt (by omega) (by omega)]; omega) ?_
      rw [nI_1 sz]
      refine xe_register E T (c := rg) (n := sz + 1) (by omega) (fun t ht => hr t (by omega)) (nd_y al N i) rfl ?_
      by_cases z : ev_l rg (sz + 1) (nd_y al N i) = 0
      · have b : (fun i => !fl i && !nz_b (ev_l rg (sz + 1) (nd_y al N i))) i = true := by
          show (!fl i && !nz_b (ev_l rg (sz + 1) (nd_y al N i))) = true
          rw [f, nz_f.mpr z]; rfl
        refine br_t ((em_z E).mpr z) ⟨pk_in i 18 (by omega), nm_r (e' := upd (upd lc i 0) i 1) (by rfl) (nm_r (nI_1 _) (nm_r (nI_1 i) (K (nI (ct_c (fun i => !fl i && !nz_b (ev_l rg (sz + 1) (nd_y al N i))) i + 1), upd (upd lc i 0) i 1) ⟨?_, keep 1 true rfl b.symm _ (fun k hk => pk_un (by omega))⟩)))⟩
        rw [ct_nt b]
      · have b : (fun i => !fl i && !nz_b (ev_l rg (sz + 1) (nd_y al N i))) i = false := by
          show (!fl i && !nz_b (ev_l rg (sz + 1) (nd_y al N i))) = false
          rw [f, nz_t.mpr z]; rfl
        refine br_f (em_nz E z) (nm_r (nI_1 i) (K (nI (ct_c (fun i => !fl i && !nz_b (ev_l rg (sz + 1) (nd_y al N i))) i), upd lc i 0) ⟨?_, keep 0 false rfl b.symm lc (fun _ _ => rfl)⟩))
        rw [ct_nf b]
    · have b : (fun i => !fl i && !nz_b (ev_l rg (sz + 1) (nd_y al N i))) i = false := by
        show (!fl i && !nz_b (ev_l rg (sz + 1) (nd_y al N i))) = false
        rw [f]; rfl
      rw [ct_nf b]
theorem xc_111 {post : SX → Prop} {J : Int32 → (Nat → Int32) → (Nat → Int32) → (Nat → Int32) → (Nat → Int32) → (Nat → Int32) → (Nat → Int32) → (Nat → Int32) → (Nat → Int32) → (Nat → Int32) → (Nat → Int32) → (Nat → Int32) → (Nat → Int32) → (Nat → Int32) → (Nat → Int32) → (Nat → Int32) → (Nat → Int32) → (Nat → Int32) → Prop} {i : Nat} (hi : i < 18) (hJ : J (nI (i + 1)) a_powers a_logs a_generator a_message a_sent a_received a_flags (upd a_delivered i (a_received i ^^^ a_changes i)) a_changes a_locator a_syndromes a_modified a_evaluator a_register a_previous a_saved a_located) : wX_computeChanges_111 post J (nI i) f_p f_k f_b f_messageLength f_sentLength f_receivedLength f_resultStatus f_deliveredLength f_errorCount f_erasureCount a_powers a_logs a_generator a_message a_sent a_received a_flags a_delivered a_changes a_locator a_syndromes a_modified a_evaluator a_register a_previous a_saved a_located := by
  have cl : (nI i).toNatClampNeg = i := nI_clamp (by omega)
  refine ⟨pk_in i 18 hi, pk_in i 18 hi, pk_in i 18 hi, nm_r (e' := upd a_delivered i (a_received i ^^^ a_changes i)) (by rw [cl]) (nm_r (nI_1 i) hJ)⟩
theorem xc_35 {F : Type} [Lean.Grind.Field F] [Lean.Grind.IsCharP F 2] {em : F → Int32} {al : F} (E : em_P em al) {post : SX → Prop} (T : tb_T em al a_powers a_logs) {J : Int32 → (Nat → Int32) → (Nat → Int32) → (Nat → Int32) → (Nat → Int32) → (Nat → Int32) → (Nat → Int32) → (Nat → Int32) → (Nat → Int32) → (Nat → Int32) → (Nat → Int32) → (Nat → Int32) → (Nat → Int32) → (Nat → Int32) → (Nat → Int32) → (Nat → Int32) → (Nat → Int32) → (Nat → Int32) → Prop} {L Om : Nat → F} {N p b i : Nat} (hi : i < N) (hN : N ≤ 18) (hp : p ≤ 8) (hb : b ≤ 254) (hL : ∀ t, t < 9 → a_locator t = em (L t)) (hO : ∀ t, t < p → a_evaluator t = em (Om t))
    (hJ : J (nI (i + 1)) a_powers a_logs a_generator a_message a_sent a_received a_flags (upd a_delivered i (a_received i ^^^ em (fo_v L Om p (nd_X al N i) (nd_y al N i) (nd_B al N b i)))) (upd a_changes i (em (fo_v L Om p (nd_X al N i) (nd_y al N i) (nd_B al N b i)))) a_locator a_syndromes a_modified a_evaluator a_register a_previous a_saved a_located) : wX_computeChanges_35 post J (nI i) (nI p) f_k (nI b) f_messageLength f_sentLength (nI N) f_resultStatus f_deliveredLength f_errorCount f_erasureCount a_powers a_logs a_generator a_message a_sent a_received a_flags a_delivered a_changes a_locator a_syndromes a_modified a_evaluator a_register a_previous a_saved a_located := by
  unfold wX_computeChanges_35
  refine nm_r (e' := nI (N - 1 - i)) (by show nI N - nI 1 - nI i = _; rw [pk_sub (by omega), pk_sub (by omega)]) ?_
  refine xp_power E T ((i : Int) + 1 - (N : Int)) (by rw [sb_negT (by omega)]; omega) ?_
  refine xe_evaluator E T (c := Om) (n := p) hp hO (nd_y al N i) rfl ?_
  refine xs_slope E T hL (nd_y al N i) rfl ?_
  refine xp_quotient E T _ _ rfl rfl ?_
  refine xp_power E T (((N - 1 - i : Nat) : Int) * (1 - (b : Int))) (nd_sct (by omega) hb) ?_
  rw [nd_sc E]
  refine xp_product E T _ _ rfl rfl ⟨pk_in i 18 (by omega), nm_r (e' := upd a_changes i (em (fo_v L Om p (nd_X al N i) (nd_y al N i) (nd_B al N b i)))) (by rw [nI_clamp (by omega)]; rfl) ?_⟩
  refine xc_111 (by omega) ?_
  rw [pk_us]
  exact hJ
theorem xc_chg {F : Type} [Lean.Grind.Field F] [Lean.Grind.IsCharP F 2] {em : F → Int32} {al : F} (E : em_P em al) {post : SX → Prop} (T : tb_T em al a_powers a_logs) {L Om rc : Nat → F} {N p b : Nat} {fl lc : Nat → Bool} (hN : N ≤ 18) (hp : p ≤ 8) (hb : b ≤ 254) (hL : ∀ t, t < 9 → a_locator t = em (L t)) (hO : ∀ t, t < p → a_evaluator t = em (Om t)) (hw : ∀ i, i < N → a_received i = em (rc i)) (hf : ∀ i, i < N → a_flags i = bI_b (fl i)) (hl : ∀ i, i < N → a_located i = bI_b (lc i)) {ch : Nat → F} (hc : ∀ i, i < N → ch i = if (fl i || lc i) = true then fo_v L Om p (nd_X al N i) (nd_y al N i) (nd_B al N b i) else 0)
    (h : ∀ a d, (∀ i, i < N → a i = em (ch i)) → (∀ i, i < N → d i = em (rc i + ch i)) → post (nI p, f_k, nI b, f_messageLength, f_sentLength, nI N, f_resultStatus, f_deliveredLength, f_errorCount, f_erasureCount, a_powers, a_logs, a_generator, a_message, a_sent, a_received, a_flags, d, a, a_locator, a_syndromes, a_modified, a_evaluator, a_register, a_previous, a_saved, a_located)) : wpX_computeChanges post (nI p, f_k, nI b, f_messageLength, f_sentLength, nI N, f_resultStatus, f_deliveredLength, f_errorCount, f_erasureCount, a_powers, a_logs, a_generator, a_message, a_sent, a_received, a_flags, a_delivered, a_changes, a_locator, a_syndromes, a_modified, a_evaluator, a_register, a_previous, a_saved, a_located) := by
  refine pk_loop (σ := (Nat → Int32) × (Nat → Int32)) (fun n i s => wX_computeChanges_2 post (nI p) f_k (nI b) f_messageLength f_sentLength (nI N) f_resultStatus f_deliveredLength f_errorCount f_erasureCount n (nI i) a_powers a_logs a_generator a_message a_sent a_received a_flags (s.2) (s.1) a_locator a_syndromes a_modified a_evaluator a_register a_previous a_saved a_located) (fun i s => (∀ k, k < i → s.1 k = em (ch k)) ∧ ∀ k, k < i → s.2 k = em (rc k + ch k)) N 0 (a_changes, a_delivered) (by omega) ⟨fun k hk => absurd hk (by omega), fun k hk => absurd hk (by omega)⟩ ?_ ?_
  · intro n s hs
    exact pk_le N N (fun _ => h _ _ hs.1 hs.2) (fun w => absurd w (by omega))
  · intro n i s hi hs K
    obtain ⟨a, d⟩ := s
    obtain ⟨g1, g2⟩ := hs
    dsimp only at g1 g2 K ⊢
    have cl : (nI i).toNatClampNeg = i := nI_clamp (by omega)
    have fin : ∀ f : Nat → Int32, (∀ k, k < i → f k = a k) → (∀ k, k < i + 1 → upd f i (em (ch i)) k = em (ch k)) := by
      intro f hf' k hk
      by_cases e : k = i
      · subst e; exact pk_us
      · rw [pk_un e, hf' k (by omega)]; exact g1 k (by omega)
    have fid : ∀ k, k < i + 1 → upd d i (a_received i ^^^ em (ch i)) k = em (rc k + ch k) := by
      intro k hk
      by_cases e : k = i
      · subst e; rw [pk_us, hw k hi, em_add E]
      · rw [pk_un e]; exact g2 k (by omega)
    refine pk_le N i (fun w => absurd w (by omega)) (fun _ => ⟨pk_in i 18 (by omega), nm_r (e' := upd a i 0) (by rw [cl]) ⟨pk_in i 18 (by omega), ?_⟩⟩)
    rw [cl]
    have big : (fl i || lc i) = true → wX_computeChanges_35 post (wX_computeChanges_2 post (nI p) f_k (nI b) f_messageLength f_sentLength (nI N) f_resultStatus f_deliveredLength f_errorCount f_erasureCount n) (nI i) (nI p) f_k (nI b) f_messageLength f_sentLength (nI N) f_resultStatus f_deliveredLength f_errorCount f_erasureCount a_powers a_logs a_generator a_message a_sent a_received a_flags d (upd a i 0) a_locator a_syndromes a_modified a_evaluator a_register a_previous a_saved a_located := by
      intro q
      refine xc_35 E T hi hN hp hb hL hO ?_
      have e := hc i hi
      rw [if_pos q] at e
      rw [← e]
      exact K (upd (upd a i 0) i (em (ch i)), upd d i (a_received i ^^^ em (ch i))) ⟨fin _ (fun k hk => pk_un (by omega)), fid⟩
    refine bI_br (hf i hi) (fun f => ⟨pk_in i 18 (by omega), bI_br (hl i hi) (fun g => ?_) (fun g => big (by rw [f, g]; rfl))⟩) (fun f => big (by rw [f]; rfl))
    refine xc_111 (by omega) ?_
    have e := hc i hi
    rw [f, g, if_neg (by decide)] at e
    have z : (0 : Int32) = em (ch i) := by rw [e, em_0 E]
    rw [pk_us, z]
    exact K (upd a i (em (ch i)), upd d i (a_received i ^^^ em (ch i))) ⟨fin _ (fun k hk => rfl), fid⟩
theorem xh_hold {F : Type} [Lean.Grind.Field F] [Lean.Grind.IsCharP F 2] {em : F → Int32} {al : F} (E : em_P em al) {post : Int32 → Prop} (T : tb_T em al a_powers a_logs) {ch dl : Nat → F} {N p b sz : Nat} {fl : Nat → Bool} (hN : N ≤ 18) (hp : p ≤ 8) (hb : b ≤ 254) (hs : sz ≤ 8) (hf : ∀ i, i < N → a_flags i = bI_b (fl i)) (hc : ∀ i, i < N → a_changes i = em (ch i)) (hd : ∀ i, i < N → a_delivered i = em (dl i))
    (h1 : ct_c (ch_b fl ch) N = sz → (∀ j, j < p → hv_h dl (al ^ (b + j)) N = 0) → post 1)
    (h0 : ¬ (ct_c (ch_b fl ch) N = sz ∧ ∀ j, j < p → hv_h dl (al ^ (b + j)) N = 0) → post 0) : wpX_deliveryHolds post (nI p, f_k, nI b, f_messageLength, f_sentLength, nI N, f_resultStatus, f_deliveredLength, f_errorCount, f_erasureCount, a_powers, a_logs, a_generator, a_message, a_sent, a_received, a_flags, a_delivered, a_changes, a_locator, a_syndromes, a_modified, a_evaluator, a_register, a_previous, a_saved, a_located) (nI sz) := by
  refine pk_loop (fun n i s => wX_deliveryHolds_4 post (nI sz) (nI p) f_k (nI b) f_messageLength f_sentLength (nI N) f_resultStatus f_deliveredLength f_errorCount f_erasureCount a_powers a_logs a_generator a_message a_sent a_received a_flags a_delivered a_changes a_locator a_syndromes a_modified a_evaluator a_register a_previous a_saved a_located n s (nI i)) (fun i s => s = nI (ct_c (ch_b fl ch) i)) N 0 0 (by omega) rfl ?_ ?_
  · intro n s e
    have le := ct_le (ch_b fl ch) N
    refine pk_le N N (fun _ => pk_eq (ct_c (ch_b fl ch) N) sz (fun e1 => ?_) (fun e1 => h0 (fun w => e1 w.1)) e) (fun w => absurd w (by omega))
    refine pk_loop (σ := Unit) (fun n j _ => wX_deliveryHolds_48 post (nI p) f_k (nI b) f_messageLength f_sentLength (nI N) f_resultStatus f_deliveredLength f_errorCount f_erasureCount a_powers a_logs a_generator a_message a_sent a_received a_flags a_delivered a_changes a_locator a_syndromes a_modified a_evaluator a_register a_previous a_saved a_located n (nI j)) (fun j _ => ∀ k, k < j → hv_h dl (al ^ (b + k)) N = 0) p 0 () (by omega) (fun k hk => absurd hk (by omega)) ?_ ?_
    · intro n _ hz
      exact pk_le p p (fun _ => h1 e1 hz) (fun w => absurd w (by omega))
    · intro n j _ hj hz K
      refine pk_le p j (fun w => absurd w (by omega)) (fun _ => ?_)
      refine xs_delivered E T hN hb (by omega) hd ?_
      by_cases z : hv_h dl (al ^ (b + j)) N = 0
      · refine br_t ((em_z E).mpr z) (nm_r (nI_1 j) (K () ?_))
        intro k hk
        by_cases q : k = j
        · rw [q]; exact z
        · exact hz k (by omega)
      · exact br_f (em_nz E z) (h0 (fun w => z (w.2 j hj)))
  · intro n i s hi e K
    subst e
    have cl : (nI i).toNatClampNeg = i := nI_clamp (by omega)
    refine pk_le N i (fun w => absurd w (by omega)) (fun _ => ⟨pk_in i 18 (by omega), ?_⟩)
    rw [cl]
    refine bI_br (hf i hi) (fun f => ⟨pk_in i 18 (by omega), ?_⟩) (fun f => nm_r (nI_1 i) (K _ ?_))
    · by_cases z : ch i = 0
      · refine br_t (by rw [hc i hi]; exact (em_z E).mpr z) (nm_r (nI_1 i) (K _ ?_))
        rw [ct_nf (by unfold ch_b; rw [nz_f.mpr z]; simp)]
      · refine br_f (by rw [hc i hi]; exact em_nz E z) (nm_r (nI_1 _) (nm_r (nI_1 i) (K _ ?_)))
        rw [ct_nt (by unfold ch_b; rw [nz_t.mpr z, f]; rfl)]
    · rw [ct_nf (by unfold ch_b; rw [f]; rfl)]
theorem xf_cnt {post : Int32 → Prop} {N : Nat} {fl : Nat → Bool} (hN : N ≤ 18) (hf : ∀ i, i < N → a_flags i = bI_b (fl i)) (h : post (nI (ct_c fl N))) : wpX_countFlags post (f_p, f_k, f_b, f_messageLength, f_sentLength, nI N, f_resultStatus, f_deliveredLength, f_errorCount, f_erasureCount, a_powers, a_logs, a_generator, a_message, a_sent, a_received, a_flags, a_delivered, a_changes, a_locator, a_syndromes, a_modified, a_evaluator, a_register, a_previous, a_saved, a_located) := by
  refine pk_loop (fun n i s => wX_countFlags_4 post f_p f_k f_b f_messageLength f_sentLength (nI N) f_resultStatus f_deliveredLength f_errorCount f_erasureCount a_powers a_logs a_generator a_message a_sent a_received a_flags a_delivered a_changes a_locator a_syndromes a_modified a_evaluator a_register a_previous a_saved a_located n s (nI i)) (fun i s => s = nI (ct_c fl i)) N 0 0 (by omega) rfl ?_ ?_
  · intro n s e
    exact pk_le N N (fun _ => by rw [e]; exact h) (fun w => absurd w (by omega))
  · intro n i s hi e K
    subst e
    refine pk_le N i (fun w => absurd w (by omega)) (fun _ => ⟨pk_in i 18 (by omega), ?_⟩)
    rw [nI_clamp (by omega)]
    refine bI_br (hf i hi) (fun f => nm_r (nI_1 i) (K _ ?_)) (fun f => nm_r (nI_1 _) (nm_r (nI_1 i) (K _ ?_)))
    · rw [ct_nf f]
    · rw [ct_nt f]
end
end
section
/-! the component's decode, whole -/
/-- the status of a delivery -/
noncomputable def st_s {F : Type} [Lean.Grind.Field F] (N : Nat) (e : Nat → F) : Nat := if ct_c (fun i => nz_b (e i)) N = 0 then 1 else 2
theorem st_n {F : Type} [Lean.Grind.Field F] {N : Nat} {e : Nat → F} : st_s (N + 1) e = if nz_b (e N) = true then 2 else st_s N e := by
  unfold st_s
  cases h : nz_b (e N) with
  | true => rw [ct_nt (P := fun i => nz_b (e i)) h, if_pos rfl, if_neg (by omega)]
  | false => rw [ct_nf (P := fun i => nz_b (e i)) h]; exact (if_neg (by decide)).symm
theorem st_12 {F : Type} [Lean.Grind.Field F] (N : Nat) (e : Nat → F) : st_s N e = 1 ∨ st_s N e = 2 := by
  unfold st_s
  by_cases h : ct_c (fun i => nz_b (e i)) N = 0
  · exact Or.inl (if_pos h)
  · exact Or.inr (if_neg h)
theorem st_congr {F : Type} [Lean.Grind.Field F] {N : Nat} {e f : Nat → F} (h : ∀ i, i < N → e i = f i) : st_s N e = st_s N f := by
  unfold st_s
  rw [ct_congr (fun i hi => by rw [h i hi])]
section
variable {f_p f_k f_b f_messageLength f_sentLength f_receivedLength f_resultStatus f_deliveredLength f_errorCount f_erasureCount : Int32} {a_powers a_logs a_generator a_message a_sent a_received a_flags a_delivered a_changes a_locator a_syndromes a_modified a_evaluator a_register a_previous a_saved a_located : Nat → Int32}
theorem xd_fin {F : Type} [Lean.Grind.Field F] [Lean.Grind.IsCharP F 2] {em : F → Int32} {al : F} (E : em_P em al) {post : Int32 → SX → Prop} {e : Nat → F} {N : Nat} (hN : N ≤ 18) (hc : ∀ i, i < N → a_changes i = em (e i)) (h : post (nI (st_s N e)) (f_p, f_k, f_b, f_messageLength, f_sentLength, f_receivedLength, nI (st_s N e), nI N, f_errorCount, f_erasureCount, a_powers, a_logs, a_generator, a_message, a_sent, a_received, a_flags, a_delivered, a_changes, a_locator, a_syndromes, a_modified, a_evaluator, a_register, a_previous, a_saved, a_located)) : ∃ n, wX_decode_152 post f_p f_k f_b f_messageLength f_sentLength f_receivedLength (nI N) f_errorCount f_erasureCount a_powers a_logs a_generator a_message a_sent a_received a_flags a_delivered a_changes a_locator a_syndromes a_modified a_evaluator a_register a_previous a_saved a_located n 0 1 := by
  refine pk_loop (fun n i s => wX_decode_152 post f_p f_k f_b f_messageLength f_sentLength f_receivedLength (nI N) f_errorCount f_erasureCount a_powers a_logs a_generator a_message a_sent a_received a_flags a_delivered a_changes a_locator a_syndromes a_modified a_evaluator a_register a_previous a_saved a_located n (nI i) s) (fun i s => s = nI (st_s i e)) N 0 1 (by omega) rfl ?_ ?_
  · intro n s q
    exact pk_le N N (fun _ => by rw [q]; exact h) (fun w => absurd w (by omega))
  · intro n i s hi q K
    refine pk_le N i (fun w => absurd w (by omega)) (fun _ => ⟨pk_in i 18 (by omega), ?_⟩)
    rw [nI_clamp (by omega), hc i hi]
    by_cases z : e i = 0
    · refine br_t ((em_z E).mpr z) (nm_r (nI_1 i) (K _ ?_))
      rw [st_n, nz_f.mpr z, if_neg (by decide)]
      exact q
    · refine br_f (em_nz E z) (nm_r (nI_1 i) (K _ ?_))
      rw [st_n, nz_t.mpr z, if_pos rfl]
      rfl
theorem xb_syn2 {F : Type} [Lean.Grind.Field F] [Lean.Grind.IsCharP F 2] {em : F → Int32} {al : F} (E : em_P em al) {post : Int32 → SX → Prop} (T : tb_T em al a_powers a_logs) {X S : Nat → F} {N p : Nat} {fl : Nat → Bool} (hp : p ≤ 8) (hs : ct_c fl N ≤ p) (hm : ∀ t, t < p → a_modified t = em (cv_c (lm_l X fl (on_e : Nat → F) N) S t))
    (h : ∀ st r a b, st = xd_bm N p X S fl → st.1 ≤ p - ct_c fl N → (∀ t, t < 9 → r t = em (st.2.2.2.1 t)) → post (nI st.1) (f_p, f_k, f_b, f_messageLength, f_sentLength, f_receivedLength, f_resultStatus, f_deliveredLength, f_errorCount, f_erasureCount, a_powers, a_logs, a_generator, a_message, a_sent, a_received, a_flags, a_delivered, a_changes, a_locator, a_syndromes, a_modified, a_evaluator, r, a, b, a_located)) : wpX_synthesise post (f_p, f_k, f_b, f_messageLength, f_sentLength, f_receivedLength, f_resultStatus, f_deliveredLength, f_errorCount, f_erasureCount, a_powers, a_logs, a_generator, a_message, a_sent, a_received, a_flags, a_delivered, a_changes, a_locator, a_syndromes, a_modified, a_evaluator, a_register, a_previous, a_saved, a_located) (nI (ct_c fl N)) (nI (p - ct_c fl N)) :=
  xb_syn E T (q := p) hp (by omega) hm (fun r a b hr => h (xd_bm N p X S fl) r a b rfl (bm_any _ _).1 hr)
theorem xr_forget {post : SX → Prop} (h : post (f_p, f_k, f_b, f_messageLength, f_sentLength, f_receivedLength, 0, 0, 0, 0, a_powers, a_logs, a_generator, a_message, a_sent, a_received, a_flags, a_delivered, a_changes, a_locator, a_syndromes, a_modified, a_evaluator, a_register, a_previous, a_saved, a_located)) : wpX_forgetResult post (f_p, f_k, f_b, f_messageLength, f_sentLength, f_receivedLength, f_resultStatus, f_deliveredLength, f_errorCount, f_erasureCount, a_powers, a_logs, a_generator, a_message, a_sent, a_received, a_flags, a_delivered, a_changes, a_locator, a_syndromes, a_modified, a_evaluator, a_register, a_previous, a_saved, a_located) := h
theorem xd_dec {F : Type} [Lean.Grind.Field F] [Lean.Grind.IsCharP F 2] {em : F → Int32} {al : F} (E : em_P em al) {post : Int32 → SX → Prop} (T : tb_T em al a_powers a_logs) {p b N : Nat} {rc : Nat → F} {fl : Nat → Bool} (hp : p ≤ 8) (hb : b ≤ 254) (h0N : 0 < N) (hN : N ≤ 18) (hw : ∀ i, i < N → a_received i = em (rc i)) (hf : ∀ i, i < N → a_flags i = bI_b (fl i))
    (h4 : p < ct_c fl N → post 4 (nI p, f_k, nI b, f_messageLength, f_sentLength, nI N, 4, 0, 0, 0, a_powers, a_logs, a_generator, a_message, a_sent, a_received, a_flags, a_delivered, a_changes, a_locator, a_syndromes, a_modified, a_evaluator, a_register, a_previous, a_saved, a_located))
    (hok : ct_c fl N ≤ p → ∀ (e : Nat → F) (dl ch lo sy mo ev re pr sa lc : Nat → Int32), gd_e N p (nd_B al N b) (nd_X al N) (sy_s N (nd_B al N b) (nd_X al N) rc) fl e → (∀ i, i < N → ch i = em (e i)) → (∀ i, i < N → dl i = em (rc i + e i)) → (∀ t, t < 9 → lo t = em (lm_l (nd_X al N) (fun i => fl i || ch_b fl e i) (on_e : Nat → F) N t)) → post (nI (st_s N e)) (nI p, f_k, nI b, f_messageLength, f_sentLength, nI N, nI (st_s N e), nI N, nI (ct_c (ch_b fl e) N), nI (ct_c fl N), a_powers, a_logs, a_generator, a_message, a_sent, a_received, a_flags, dl, ch, lo, sy, mo, ev, re, pr, sa, lc))
    (hno : ct_c fl N ≤ p → (¬ ∃ e, gd_e N p (nd_B al N b) (nd_X al N) (sy_s N (nd_B al N b) (nd_X al N) rc) fl e) → ∀ (dl ch lo sy mo ev re pr sa lc : Nat → Int32), post 3 (nI p, f_k, nI b, f_messageLength, f_sentLength, nI N, 3, 0, 0, 0, a_powers, a_logs, a_generator, a_message, a_sent, a_received, a_flags, dl, ch, lo, sy, mo, ev, re, pr, sa, lc)) : wpX_decode post (nI p, f_k, nI b, f_messageLength, f_sentLength, nI N, f_resultStatus, f_deliveredLength, f_errorCount, f_erasureCount, a_powers, a_logs, a_generator, a_message, a_sent, a_received, a_flags, a_delivered, a_changes, a_locator, a_syndromes, a_modified, a_evaluator, a_register, a_previous, a_saved, a_located) := by
  unfold wpX_decode
  refine br_f (nI_ne0 h0N (by omega)) ?_
  refine xr_forget ?_
  refine xf_cnt hN hf ?_
  have cle := ct_le fl N
  refine pk_le (ct_c fl N) p (fun hs => ?_) (fun hs => h4 hs)
  have hok := hok hs
  have hno := hno hs
  have hX := nd_inj E hN
  have hY := nd_yinj E hN
  have h0 : ∀ i, i < N → nd_X al N i ≠ 0 := fun i _ => nd_0 E N i
  have hxy : ∀ i, i < N → nd_X al N i * nd_y al N i = 1 := fun i hi => nd_xy E hi
  have hB : ∀ i, i < N → nd_B al N b i ≠ 0 := fun i _ => nd_B0 E N b i
  refine xc_syn E T hN hb hp hw (fun sy hsy => ?_)
  have hS : ∀ j, j < p → sy j = em (sy_s N (nd_B al N b) (nd_X al N) rc j) := fun j hj => by rw [hsy j hj, nd_syn E]
  refine xl_era E T hN hf (by omega) (fun g hg => ?_)
  refine xm_modified E T hp hg hS (fun mo hmo => ?_)
  refine nm_r (pk_sub hs) ?_
  refine xb_syn2 E T hp hs hmo (fun st re pr sa hst bma hre => ?_)
  have ok := fun e h => xd_ok (y := nd_y al N) (e := e) (fl := fl) (p := p) (S := sy_s N (nd_B al N b) (nd_X al N) rc) hX hY h0 hxy hB hp hs h
  rw [← hst] at ok
  refine pk_le (2 * st.1) (p - ct_c fl N) (fun h2 => ?_) (fun h2 => ?_) (hx := pk_mul 2 st.1)
  · refine xf_find E T hN (by omega) hre hf (fun lc hlc hct => ?_) (fun lc hct => ?_)
    · refine br_f (by decide) ?_
      have dis : ∀ i, i < N → fl i = true → xd_lc (nd_y al N) fl st i = false := by
        intro i _ f
        unfold xd_lc
        rw [f]; rfl
      have hlc : ∀ i, i < N → lc i = bI_b (xd_lc (nd_y al N) fl st i) := hlc
      have hct : ct_c (xd_lc (nd_y al N) fl st) N = st.1 := hct
      refine xl_ext E T (M := xd_lc (nd_y al N) fl st) (d := ct_c fl N) hN hlc (by omega) (fun t ht => lm_dg1 N t ht) hg (fun lo hlo => ?_)
      refine xm_evaluator E T hp hlo hS (fun ev hev => ?_)
      refine xc_chg E T (lc := xd_lc (nd_y al N) fl st) (ch := xd_ch p (nd_B al N b) (nd_X al N) (nd_y al N) (sy_s N (nd_B al N b) (nd_X al N) rc) fl (xd_lc (nd_y al N) fl st) (lm_l (nd_X al N) (xd_lc (nd_y al N) fl st) (lm_l (nd_X al N) fl (on_e : Nat → F) N) N)) hN hp hb hlo hev hw hf hlc (fun i hi => rfl) (fun ch dl hch hdl => ?_)
      have sub : ∀ cv : Nat → F, xd_ch p (nd_B al N b) (nd_X al N) (nd_y al N) (sy_s N (nd_B al N b) (nd_X al N) rc) fl (xd_lc (nd_y al N) fl st) (lm_l (nd_X al N) (xd_lc (nd_y al N) fl st) (lm_l (nd_X al N) fl (on_e : Nat → F) N) N) = cv → ∀ i, i < N → ch_b fl cv i = true → xd_lc (nd_y al N) fl st i = true := by
        intro cv hcv i hi q
        unfold ch_b at q
        cases w : xd_lc (nd_y al N) fl st i with
        | true => rfl
        | false =>
          exfalso
          have z : cv i = 0 := by
            rw [← hcv]
            unfold xd_ch
            cases f : fl i with
            | true => rw [f] at q; exact nomatch q
            | false => rw [w]; exact if_neg (by decide)
          rw [nz_f.mpr z] at q
          cases f : fl i with
          | true => rw [f] at q; exact nomatch q
          | false => rw [f] at q; exact nomatch q
      generalize hcv : xd_ch p (nd_B al N b) (nd_X al N) (nd_y al N) (sy_s N (nd_B al N b) (nd_X al N) rc) fl (xd_lc (nd_y al N) fl st) (lm_l (nd_X al N) (xd_lc (nd_y al N) fl st) (lm_l (nd_X al N) fl (on_e : Nat → F) N) N) = cv at hch hdl ok sub
      have sub := sub cv rfl
      refine xh_hold E T (ch := cv) (dl := fun i => rc i + cv i) hN hp hb (by omega) hf hch hdl (fun c1 c2 => ?_) (fun c0 => ?_)
      · refine br_f (by decide) ?_
        have eqv := ct_all sub (by omega)
        refine xd_fin E hN hch ?_
        have K := hok cv dl ch lo sy mo ev re pr sa lc ⟨by omega, fun j hj => ?_⟩ hch hdl (fun t ht => ?_)
        · rw [c1] at K
          exact K
        · have a := c2 j hj
          rw [nd_syn E, sy_add] at a
          exact (c2_e a).symm
        · rw [hlo t ht, lm_or _ _ _ _ _ dis, lm_congr (R := fun i => fl i || ch_b fl cv i) (fun i hi => by show (fl i || xd_lc (nd_y al N) fl st i) = (fl i || ch_b fl cv i); rw [eqv i hi]) (fun _ _ => rfl)]
      · refine br_t rfl ?_
        refine hno (fun ⟨e, he⟩ => ?_) _ _ _ _ _ _ _ _ _ _
        obtain ⟨k1, k2, k3⟩ := ok e he
        apply c0
        refine ⟨?_, fun j hj => ?_⟩
        · rw [k1]
          exact ct_congr (fun i hi => by unfold ch_b; rw [k3 i hi])
        · rw [nd_syn E, sy_add, sy_congr k3, he.2 j hj]
          exact c2_s _
    · refine br_t rfl ?_
      refine hno (fun ⟨e, he⟩ => ?_) _ _ _ _ _ _ _ _ _ _
      obtain ⟨k1, k2, _⟩ := ok e he
      apply hct
      exact (ct_congr k2).trans k1.symm
  · refine hno (fun ⟨e, he⟩ => ?_) _ _ _ _ _ _ _ _ _ _
    have k1 := (ok e he).1
    have := he.1
    omega
end
end
section
/-! the reference's field -/
theorem ym_1b {a c : Nat} (ha : a < 256) : ∀ t, t ≤ 8 → ym_1 a c t < 2 ^ 15 := by
  intro t
  induction t with
  | zero => intro _; show 0 < 2 ^ 15; decide
  | succ t ih =>
    intro ht
    show ym_1 a c t ^^^ (if c.testBit t = true then a <<< t else 0) < 2 ^ 15
    refine Nat.xor_lt_two_pow (ih (by omega)) ?_
    by_cases q : c.testBit t = true
    · rw [if_pos q, Nat.shiftLeft_eq]
      have : 2 ^ t ≤ 2 ^ 7 := Nat.pow_le_pow_right (by decide) (by omega)
      have : a * 2 ^ t ≤ 255 * 2 ^ 7 := Nat.mul_le_mul (by omega) this
      omega
    · rw [if_neg q]; decide
theorem ym_2b {z : Nat} (hz : z < 2 ^ 15) : ∀ k, k ≤ 7 → ym_2 z k < 2 ^ 15 := by
  intro k
  induction k with
  | zero => intro _; exact hz
  | succ k ih =>
    intro hk
    show (if (ym_2 z k).testBit (14 - k) = true then ym_2 z k ^^^ (285 <<< (6 - k)) else ym_2 z k) < 2 ^ 15
    by_cases q : (ym_2 z k).testBit (14 - k) = true
    · rw [if_pos q]
      refine Nat.xor_lt_two_pow (ih (by omega)) ?_
      rw [Nat.shiftLeft_eq]
      have : 2 ^ (6 - k) ≤ 2 ^ 6 := Nat.pow_le_pow_right (by decide) (by omega)
      have : 285 * 2 ^ (6 - k) ≤ 285 * 2 ^ 6 := Nat.mul_le_mul (by omega) this
      omega
    · rw [if_neg q]; exact ih (by omega)
section
variable {f_p f_k f_b f_messageLength f_sentLength f_receivedLength f_state f_resultLength f_errorCount f_erasureCount : Int32} {a_message a_sent a_received a_flags a_delivered a_changes a_touched a_word a_weights a_syndromes a_places a_rows a_values a_exponents : Nat → Int32}
theorem yp_red {post : Int32 → Prop} {z : Nat} (hz : z < 2 ^ 15) (h : post (nI (ym_2 z 7))) : ∃ n, wY_multiply_63 post f_p f_k f_b f_messageLength f_sentLength f_receivedLength f_state f_resultLength f_errorCount f_erasureCount a_message a_sent a_received a_flags a_delivered a_changes a_touched a_word a_weights a_syndromes a_places a_rows a_values a_exponents n (nI z) 14 := by
  refine pk_loop (fun n k s => wY_multiply_63 post f_p f_k f_b f_messageLength f_sentLength f_receivedLength f_state f_resultLength f_errorCount f_erasureCount a_message a_sent a_received a_flags a_delivered a_changes a_touched a_word a_weights a_syndromes a_places a_rows a_values a_exponents n s (nI (14 - k))) (fun k s => s = nI (ym_2 z k)) 7 0 (nI z) (by omega) rfl ?_ ?_
  · intro n s e
    exact pk_lt 7 8 (fun _ => by rw [e]; exact h) (fun w => absurd w (by omega))
  · intro n k s hk e K
    subst e
    have bd := ym_2b hz k (by omega)
    refine pk_lt (14 - k) 8 (fun w => absurd w (by omega)) (fun _ => ?_)
    have m1 : nI (14 - k) + (-1) = nI (14 - (k + 1)) := by
      rw [show 14 - k = 14 - (k + 1) + 1 by omega, pk_m1]
    have sh : (285 : Int32) <<< ((nI (14 - k) - 8) &&& 31) = nI (285 <<< (6 - k)) := by
      have a : nI (14 - k) - 8 = nI (6 - k) := by
        show nI (14 - k) - nI 8 = _
        rw [pk_sub (by omega)]
        exact congrArg nI (by omega)
      rw [a]
      have : 2 ^ (6 - k) ≤ 2 ^ 6 := Nat.pow_le_pow_right (by decide) (by omega)
      exact yb_sl (n := 285) (by omega) (by omega)
    by_cases q : (ym_2 z k).testBit (14 - k) = true
    · refine br_t ((yb_1 (by omega) (by omega)).mpr q) (nm_r (e' := nI (ym_2 z (k + 1))) ?_ (nm_r m1 (K _ rfl)))
      rw [sh, nx_xor]
      exact congrArg nI (if_pos q).symm
    · refine br_f (fun w => q ((yb_1 (by omega) (by omega)).mp w)) (nm_r m1 (K _ ?_))
      exact congrArg nI (if_neg q).symm
theorem yp_mulN {post : Int32 → Prop} {a c : Nat} (ha : a < 256) (hc : c < 256) (h : post (nI (ym_2 (ym_1 a c 8) 7))) : ∃ n, wY_multiply_29 post (nI a) (nI c) f_p f_k f_b f_messageLength f_sentLength f_receivedLength f_state f_resultLength f_errorCount f_erasureCount a_message a_sent a_received a_flags a_delivered a_changes a_touched a_word a_weights a_syndromes a_places a_rows a_values a_exponents n 0 0 := by
  refine pk_loop (fun n t s => wY_multiply_29 post (nI a) (nI c) f_p f_k f_b f_messageLength f_sentLength f_receivedLength f_state f_resultLength f_errorCount f_erasureCount a_message a_sent a_received a_flags a_delivered a_changes a_touched a_word a_weights a_syndromes a_places a_rows a_values a_exponents n s (nI t)) (fun t s => s = nI (ym_1 a c t)) 8 0 0 (by omega) rfl ?_ ?_
  · intro n s e
    subst e
    exact pk_le 8 8 (fun _ => yp_red (ym_1b ha 8 (by omega)) h) (fun w => absurd w (by omega))
  · intro n t s ht e K
    subst e
    have bd := ym_1b (c := c) ha t (by omega)
    refine pk_le 8 t (fun w => absurd w (by omega)) (fun _ => ?_)
    have sh : nI a <<< (nI t &&& 31) = nI (a <<< t) := by
      have : 2 ^ t ≤ 2 ^ 7 := Nat.pow_le_pow_right (by decide) (by omega)
      have : a * 2 ^ t ≤ 255 * 2 ^ 7 := Nat.mul_le_mul (by omega) this
      exact yb_sl (by omega) (by omega)
    by_cases q : c.testBit t = true
    · refine br_t ((yb_1 (by omega) (by omega)).mpr q) (nm_r (e' := nI (ym_1 a c (t + 1))) ?_ (nm_r (nI_1 t) (K _ rfl)))
      rw [sh, nx_xor]
      show _ = nI (ym_1 a c t ^^^ (if c.testBit t = true then a <<< t else 0))
      rw [if_pos q]
    · refine br_f (fun w => q ((yb_1 (by omega) (by omega)).mp w)) (nm_r (nI_1 t) (K _ ?_))
      show _ = nI (ym_1 a c t ^^^ (if c.testBit t = true then a <<< t else 0))
      rw [if_neg q, Nat.xor_zero]
theorem yp_mul {F : Type} [Lean.Grind.Field F] [Lean.Grind.IsCharP F 2] {em : F → Int32} {al : F} (E : em_P em al) {post : Int32 → Prop} {a c : Int32} (x y : F) (ha : a = em x) (hc : c = em y) (h : post (em (x * y))) : wpY_multiply post (f_p, f_k, f_b, f_messageLength, f_sentLength, f_receivedLength, f_state, f_resultLength, f_errorCount, f_erasureCount, a_message, a_sent, a_received, a_flags, a_delivered, a_changes, a_touched, a_word, a_weights, a_syndromes, a_places, a_rows, a_values, a_exponents) a c := by
  subst ha hc
  obtain ⟨n, hn, en⟩ := em_rng E x
  obtain ⟨m, hm, ey⟩ := em_rng E y
  refine br_f (em_ge E x) (br_f (em_ngt E x) (br_f (em_ge E y) (br_t (em_lt E y) ?_)))
  rw [en, ey]
  rw [em_m E hn hm en ey] at h
  exact yp_mulN hn hm h
theorem yp_div {F : Type} [Lean.Grind.Field F] [Lean.Grind.IsCharP F 2] {em : F → Int32} {al : F} (E : em_P em al) {post : Int32 → Prop} {a c : Int32} (x y : F) (hy : y ≠ 0) (ha : a = em x) (hc : c = em y) (h : post (em (x * y⁻¹))) : wpY_divide post (f_p, f_k, f_b, f_messageLength, f_sentLength, f_receivedLength, f_state, f_resultLength, f_errorCount, f_erasureCount, a_message, a_sent, a_received, a_flags, a_delivered, a_changes, a_touched, a_word, a_weights, a_syndromes, a_places, a_rows, a_values, a_exponents) a c := by
  subst ha hc
  refine br_f (em_ge E x) (br_f (em_ngt E x) (br_f (em_ge1 E hy) (br_t (em_lt E y) ?_)))
  obtain ⟨q, hq, eq⟩ := em_rng E (x * y⁻¹)
  have inv := fz_i hy
  have zy : x * y⁻¹ * y = x := by
    have : x * y⁻¹ * y = x * (y * y⁻¹) := by grind
    rw [this, inv]; grind
  refine pk_loop (σ := Unit) (fun n i _ => wY_divide_27 post (em x) (em y) f_p f_k f_b f_messageLength f_sentLength f_receivedLength f_state f_resultLength f_errorCount f_erasureCount a_message a_sent a_received a_flags a_delivered a_changes a_touched a_word a_weights a_syndromes a_places a_rows a_values a_exponents n (nI i)) (fun _ _ => True) q 0 () (by omega) trivial ?_ ?_
  · intro n _ _
    refine pk_le 256 q (fun w => absurd w (by omega)) (fun _ => ?_)
    refine yp_mul E (x * y⁻¹) y eq.symm rfl (br_t (by rw [zy]) ?_)
    rw [← eq]
    exact h
  · intro n i _ hi _ K
    refine pk_le 256 i (fun w => absurd w (by omega)) (fun _ => ?_)
    obtain ⟨w, hw⟩ := em_sur E (show i < 256 by omega)
    refine yp_mul E w y hw.symm rfl (br_f ?_ (nm_r (nI_1 i) (K () trivial)))
    intro e
    have e := em_inj E e
    have : w = x * y⁻¹ := fz_c (by rw [e, zy]) hy
    rw [this, eq] at hw
    have := (nI_eq (by omega) (by omega)).mp hw
    omega
theorem yp_pow {F : Type} [Lean.Grind.Field F] [Lean.Grind.IsCharP F 2] {em : F → Int32} {al : F} (E : em_P em al) {post : Int32 → Prop} {e : Int32} (z : Int) (hz : e.toInt = z) (h : post (em (ae_e al z))) : wpY_alphaPower post (f_p, f_k, f_b, f_messageLength, f_sentLength, f_receivedLength, f_state, f_resultLength, f_errorCount, f_erasureCount, a_message, a_sent, a_received, a_flags, a_delivered, a_changes, a_touched, a_word, a_weights, a_syndromes, a_places, a_rows, a_values, a_exponents) e := by
  subst hz
  have R := ae_r e
  have lt : (e.toInt % 255).toNat < 255 := by omega
  have go : ∃ n, wY_alphaPower_21 post (nI (e.toInt % 255).toNat) f_p f_k f_b f_messageLength f_sentLength f_receivedLength f_state f_resultLength f_errorCount f_erasureCount a_message a_sent a_received a_flags a_delivered a_changes a_touched a_word a_weights a_syndromes a_places a_rows a_values a_exponents n 1 0 := by
    refine pk_loop (fun n t s => wY_alphaPower_21 post (nI (e.toInt % 255).toNat) f_p f_k f_b f_messageLength f_sentLength f_receivedLength f_state f_resultLength f_errorCount f_erasureCount a_message a_sent a_received a_flags a_delivered a_changes a_touched a_word a_weights a_syndromes a_places a_rows a_values a_exponents n s (nI t)) (fun t s => s = em (al ^ t)) (e.toInt % 255).toNat 0 1 (by omega) (by rw [pw_0, em_1 E]) ?_ ?_
    · intro n s q
      exact pk_le (e.toInt % 255).toNat (e.toInt % 255).toNat (fun _ => by rw [q]; exact h) (fun w => absurd w (by omega))
    · intro n t s ht q K
      subst q
      refine pk_le (e.toInt % 255).toNat t (fun w => absurd w (by omega)) (fun _ => ?_)
      refine yp_mul E (al ^ t) al rfl (em_2 E).symm (nm_r (nI_1 t) (K _ ?_))
      rw [pw_s]
  refine ⟨by decide, nm_e (br_c (fun h0 => ?_) (fun h0 => nm_e ?_))⟩
  · rw [R.1 h0]; exact go
  · rw [R.2 h0]; exact go
theorem yp_powN {F : Type} [Lean.Grind.Field F] [Lean.Grind.IsCharP F 2] {em : F → Int32} {al : F} (E : em_P em al) {post : Int32 → Prop} {e : Int32} (m : Nat) (hm : m < 2 ^ 31) (he : e = nI m) (h : post (em (al ^ m))) : wpY_alphaPower post (f_p, f_k, f_b, f_messageLength, f_sentLength, f_receivedLength, f_state, f_resultLength, f_errorCount, f_erasureCount, a_message, a_sent, a_received, a_flags, a_delivered, a_changes, a_touched, a_word, a_weights, a_syndromes, a_places, a_rows, a_values, a_exponents) e :=
  yp_pow E (m : Int) (by rw [he, nI_toInt hm]) (by rw [ae_n E]; exact h)
end
end
section
/-! the reference's weights and syndromes -/
theorem nd_wt {F : Type} [Lean.Grind.Field F] [Lean.Grind.IsCharP F 2] {em : F → Int32} {al : F} (E : em_P em al) (N b i j : Nat) : al ^ ((b + j) * (N - 1 - i)) = nd_B al N b i * nd_X al N i ^ j := by
  unfold nd_B nd_X
  rw [Nat.mul_comm, pw_p, pw_a]
section
variable {f_p f_k f_b f_messageLength f_sentLength f_receivedLength f_state f_resultLength f_errorCount f_erasureCount : Int32} {a_message a_sent a_received a_flags a_delivered a_changes a_touched a_word a_weights a_syndromes a_places a_rows a_values a_exponents : Nat → Int32}
theorem yp_prep {F : Type} [Lean.Grind.Field F] [Lean.Grind.IsCharP F 2] {em : F → Int32} {al : F} (E : em_P em al) {post : SY → Prop} {w : Nat → F} {N p b : Nat} (hN : N ≤ 18) (hp : p ≤ 8) (hb : b ≤ 254) (hw : ∀ i, i < N → a_word i = em (w i)) (h : ∀ wt sy, (∀ j, j < p → ∀ i, i < N → wt (j * 18 + i) = em (nd_B al N b i * nd_X al N i ^ j)) → (∀ j, j < p → sy j = em (sy_s N (nd_B al N b) (nd_X al N) w j)) → post (nI p, f_k, nI b, f_messageLength, f_sentLength, f_receivedLength, f_state, f_resultLength, f_errorCount, f_erasureCount, a_message, a_sent, a_received, a_flags, a_delivered, a_changes, a_touched, a_word, wt, sy, a_places, a_rows, a_values, a_exponents)) : wpY_prepare post (nI p, f_k, nI b, f_messageLength, f_sentLength, f_receivedLength, f_state, f_resultLength, f_errorCount, f_erasureCount, a_message, a_sent, a_received, a_flags, a_delivered, a_changes, a_touched, a_word, a_weights, a_syndromes, a_places, a_rows, a_values, a_exponents) (nI N) := by
  refine pk_loop (σ := (Nat → Int32) × (Nat → Int32)) (fun n j s => wY_prepare_2 post (nI N) (nI p) f_k (nI b) f_messageLength f_sentLength f_receivedLength f_state f_resultLength f_errorCount f_erasureCount n (nI j) a_message a_sent a_received a_flags a_delivered a_changes a_touched a_word (s.1) (s.2) a_places a_rows a_values a_exponents) (fun j s => (∀ k, k < j → ∀ i, i < N → s.1 (k * 18 + i) = em (nd_B al N b i * nd_X al N i ^ k)) ∧ ∀ k, k < j → s.2 k = em (sy_s N (nd_B al N b) (nd_X al N) w k)) p 0 (a_weights, a_syndromes) (by omega) ⟨fun k hk => absurd hk (by omega), fun k hk => absurd hk (by omega)⟩ ?_ ?_
  · intro n s hs
    exact pk_le p p (fun _ => h _ _ hs.1 hs.2) (fun q => absurd q (by omega))
  · intro n j s hj hs K
    obtain ⟨wt, sy⟩ := s
    obtain ⟨g1, g2⟩ := hs
    dsimp only at g1 g2 K ⊢
    have clj : (nI j).toNatClampNeg = j := nI_clamp (by omega)
    refine pk_le p j (fun q => absurd q (by omega)) (fun _ => ⟨pk_in j 8 (by omega), nm_r (e' := upd sy j 0) (by rw [clj]) ?_⟩)
    refine pk_loop (σ := (Nat → Int32) × (Nat → Int32)) (fun m i s => wY_prepare_19 post (wY_prepare_2 post (nI N) (nI p) f_k (nI b) f_messageLength f_sentLength f_receivedLength f_state f_resultLength f_errorCount f_erasureCount n) (nI N) (nI j) (nI p) f_k (nI b) f_messageLength f_sentLength f_receivedLength f_state f_resultLength f_errorCount f_erasureCount m (nI i) a_message a_sent a_received a_flags a_delivered a_changes a_touched a_word (s.1) (s.2) a_places a_rows a_values a_exponents) (fun i s => (∀ k, k < j → ∀ i, i < N → s.1 (k * 18 + i) = em (nd_B al N b i * nd_X al N i ^ k)) ∧ (∀ k, k < i → s.1 (j * 18 + k) = em (nd_B al N b k * nd_X al N k ^ j)) ∧ (∀ k, k < j → s.2 k = em (sy_s N (nd_B al N b) (nd_X al N) w k)) ∧ s.2 j = em (sm_s (fun i => w i * nd_B al N b i * nd_X al N i ^ j) i)) N 0 (wt, upd sy j 0) (by omega) ⟨g1, fun k hk => absurd hk (by omega), fun k hk => by dsimp only; rw [pk_un (by omega)]; exact g2 k hk, by dsimp only; rw [pk_us, sm_0, em_0 E]⟩ ?_ ?_
    · intro m s hs
      refine pk_le N N (fun _ => nm_r (nI_1 j) (K s ⟨?_, ?_⟩)) (fun q => absurd q (by omega))
      · intro k hk i hi
        by_cases e : k = j
        · rw [e]; exact hs.2.1 i hi
        · exact hs.1 k (by omega) i hi
      · intro k hk
        by_cases e : k = j
        · rw [e]; exact hs.2.2.2
        · exact hs.2.2.1 k (by omega)
    · intro m i s hi hs K2
      obtain ⟨wt', sy'⟩ := s
      obtain ⟨g3, g4, g5, g6⟩ := hs
      dsimp only at g3 g4 g5 g6 K2 ⊢
      have ix : nI j * 18 + nI i = nI (j * 18 + i) := by
        show nI j * nI 18 + nI i = _
        rw [pk_mul, nI_add]
      have ex : (nI b + nI j) * (nI N - 1 - nI i) = nI ((b + j) * (N - 1 - i)) := by
        show (nI b + nI j) * (nI N - nI 1 - nI i) = _
        rw [pk_sub (by omega), pk_sub (by omega), nI_add, pk_mul]
      have eb : (b + j) * (N - 1 - i) ≤ 262 * 17 := Nat.mul_le_mul (by omega) (by omega)
      have clx : (nI (j * 18 + i)).toNatClampNeg = j * 18 + i := nI_clamp (by omega)
      have cli : (nI i).toNatClampNeg = i := nI_clamp (by omega)
      refine pk_le N i (fun q => absurd q (by omega)) (fun _ => ?_)
      refine yp_powN E ((b + j) * (N - 1 - i)) (by omega) ex ?_
      rw [nd_wt E]
      refine ⟨pk_in (j * 18 + i) 144 (by omega) ix, nm_r (e' := upd wt' (j * 18 + i) (em (nd_B al N b i * nd_X al N i ^ j))) (by rw [ix, clx]) ⟨pk_in j 8 (by omega), pk_in i 18 (by omega), ?_⟩⟩
      refine yp_mul E (w i) (nd_B al N b i * nd_X al N i ^ j) (by rw [cli]; exact hw i hi) rfl ⟨pk_in j 8 (by omega), nm_r (e' := upd sy' j (em (sm_s (fun i => w i * nd_B al N b i * nd_X al N i ^ j) (i + 1)))) ?_ (nm_r (nI_1 i) (K2 (upd wt' (j * 18 + i) (em (nd_B al N b i * nd_X al N i ^ j)), upd sy' j (em (sm_s (fun i => w i * nd_B al N b i * nd_X al N i ^ j) (i + 1)))) ⟨?_, ?_, ?_, ?_⟩))⟩
      · rw [clj, g6, ← em_add E, sm_n]
        congr 2
        grind
      · dsimp only
        intro k hk i' hi'
        rw [pk_un (by omega)]; exact g3 k hk i' hi'
      · dsimp only
        intro k hk
        by_cases e : k = i
        · rw [e, pk_us]
        · rw [pk_un (by omega)]; exact g4 k (by omega)
      · dsimp only
        intro k hk
        rw [pk_un (by omega)]; exact g5 k hk
      · dsimp only
        rw [pk_us]
end
end
section
/-! the reference's elimination -/
theorem ix_9 (r c : Nat) : nI r * 9 + nI c = nI (r * 9 + c) := by
  show nI r * nI 9 + nI c = _
  rw [pk_mul, nI_add]
theorem ix_9c {r c : Nat} (h : r < 8) (hc : c < 9) : (nI r * 9 + nI c).toNatClampNeg = r * 9 + c := by
  rw [ix_9, nI_clamp (by omega)]
theorem ix_9i {r c : Nat} (h : r < 8) (hc : c < 9) : vp_in (nI r * 9 + nI c) 72 := by
  rw [ix_9]
  exact vp_in_nI (by omega) (by omega)
/-- the array holds the matrix -/
def mr_P {F : Type} (em : F → Int32) (p n : Nat) (R : Nat → Nat → F) (a : Nat → Int32) : Prop := ∀ r, r < p → ∀ c, c ≤ n → a (r * 9 + c) = em (R r c)
def el_1 {F : Type} [Lean.Grind.Field F] (R : Nat → Nat → F) (d r i : Nat) : Nat → Nat → F := fun r' c => if r' = r ∧ d ≤ c ∧ c < i then R r c * R d d + R d c * R r d else R r' c
theorem el_1t {F : Type} [Lean.Grind.Field F] {R : Nat → Nat → F} {d r i r' c : Nat} (h : r' = r ∧ d ≤ c ∧ c < i) : el_1 R d r i r' c = R r c * R d d + R d c * R r d := if_pos h
theorem el_1f {F : Type} [Lean.Grind.Field F] {R : Nat → Nat → F} {d r i r' c : Nat} (h : ¬ (r' = r ∧ d ≤ c ∧ c < i)) : el_1 R d r i r' c = R r' c := if_neg h
def el_2 {F : Type} [Lean.Grind.Field F] (R : Nat → Nat → F) (d i : Nat) : Nat → Nat → F := fun r c => if d < r ∧ r < i ∧ d ≤ c then R r c * R d d + R d c * R r d else R r c
theorem el_2t {F : Type} [Lean.Grind.Field F] {R : Nat → Nat → F} {d i r c : Nat} (h : d < r ∧ r < i ∧ d ≤ c) : el_2 R d i r c = R r c * R d d + R d c * R r d := if_pos h
theorem el_2f {F : Type} [Lean.Grind.Field F] {R : Nat → Nat → F} {d i r c : Nat} (h : ¬ (d < r ∧ r < i ∧ d ≤ c)) : el_2 R d i r c = R r c := if_neg h
section
variable {f_p f_k f_b f_messageLength f_sentLength f_receivedLength f_state f_resultLength f_errorCount f_erasureCount : Int32} {a_message a_sent a_received a_flags a_delivered a_changes a_touched a_word a_weights a_syndromes a_places a_rows a_values a_exponents : Nat → Int32}
theorem ys_262 {F : Type} [Lean.Grind.Field F] [Lean.Grind.IsCharP F 2] {em : F → Int32} {al : F} (E : em_P em al) {post : Int32 → SY → Prop} {J : Int32 → (Nat → Int32) → (Nat → Int32) → (Nat → Int32) → (Nat → Int32) → (Nat → Int32) → (Nat → Int32) → (Nat → Int32) → (Nat → Int32) → (Nat → Int32) → (Nat → Int32) → (Nat → Int32) → (Nat → Int32) → (Nat → Int32) → (Nat → Int32) → Prop} {R : Nat → Nat → F} {v : Nat → F} {p n u : Nat} (hp : p ≤ 8) (hn : n ≤ p) (hu : u < n) (hR : mr_P em p n R a_rows) (hv : ∀ k, u < k → k < n → a_values k = em (v k)) (hd : R u u ≠ 0)
    (hJ : J (nI u + (-1)) a_message a_sent a_received a_flags a_delivered a_changes a_touched a_word a_weights a_syndromes a_places a_rows (upd a_values u (em ((R u n + sm_s (fun k => R u (u + 1 + k) * v (u + 1 + k)) (n - 1 - u)) * (R u u)⁻¹))) a_exponents) {x : Int32} (hx : x = em (R u n)) : ∃ m, wY_solve_262 post J (nI n) (nI u) f_p f_k f_b f_messageLength f_sentLength f_receivedLength f_state f_resultLength f_errorCount f_erasureCount a_message a_sent a_received a_flags a_delivered a_changes a_touched a_word a_weights a_syndromes a_places a_rows a_values a_exponents m x (nI (u + 1)) := by
  refine pk_loop (fun m i s => u + 1 ≤ i → wY_solve_262 post J (nI n) (nI u) f_p f_k f_b f_messageLength f_sentLength f_receivedLength f_state f_resultLength f_errorCount f_erasureCount a_message a_sent a_received a_flags a_delivered a_changes a_touched a_word a_weights a_syndromes a_places a_rows a_values a_exponents m s (nI i)) (fun i s => s = em (R u n + sm_s (fun k => R u (u + 1 + k) * v (u + 1 + k)) (i - (u + 1)))) n (u + 1) x (by omega) ?_ ?_ ?_ |> Exists.imp (fun m hm => hm (Nat.le_refl _))
  · rw [hx, Nat.sub_self, sm_0]
    congr 1
    grind
  · intro m s e _
    refine pk_le n n (fun _ => ⟨ix_9i (by omega) (by omega), ?_⟩) (fun w => absurd w (by omega))
    rw [ix_9c (by omega) (by omega)]
    refine yp_div E _ _ hd e (hR u (by omega) u (by omega)) ⟨pk_in u 8 (by omega), nm_r (e' := upd a_values u (em ((R u n + sm_s (fun k => R u (u + 1 + k) * v (u + 1 + k)) (n - 1 - u)) * (R u u)⁻¹))) ?_ (nm_e hJ)⟩
    rw [nI_clamp (by omega), show n - (u + 1) = n - 1 - u by omega]
  · intro m i s hi e K hui
    have K := fun s' b => K s' b (by omega)
    refine pk_le n i (fun w => absurd w (by omega)) (fun _ => ⟨ix_9i (by omega) (by omega), pk_in i 8 (by omega), ?_⟩)
    rw [ix_9c (by omega) (by omega), nI_clamp (by omega)]
    refine yp_mul E (R u i) (v i) (hR u (by omega) i (by omega)) (hv i (by omega) hi) (nm_e (nm_r (nI_1 i) (K _ ?_)))
    rw [e, ← em_add E, show i + 1 - (u + 1) = (i - (u + 1)) + 1 by omega, sm_n, show u + 1 + (i - (u + 1)) = i by omega]
    congr 1
    grind
theorem ys_241 {F : Type} [Lean.Grind.Field F] [Lean.Grind.IsCharP F 2] {em : F → Int32} {al : F} (E : em_P em al) {post : Int32 → SY → Prop} {R : Nat → Nat → F} {p n : Nat} (hp : p ≤ 8) (hn : n ≤ p) (hR : mr_P em p n R a_rows) (hd : ∀ u, u < n → R u u ≠ 0)
    (h : ∀ vs (v : Nat → F), (∀ u, u < n → vs u = em (v u)) → (∀ u, u < n → R u u * v u = R u n + sm_s (fun k => R u (u + 1 + k) * v (u + 1 + k)) (n - 1 - u)) → post 1 (f_p, f_k, f_b, f_messageLength, f_sentLength, f_receivedLength, f_state, f_resultLength, f_errorCount, f_erasureCount, a_message, a_sent, a_received, a_flags, a_delivered, a_changes, a_touched, a_word, a_weights, a_syndromes, a_places, a_rows, vs, a_exponents)) : ∃ m, wY_solve_241 post (nI n) f_p f_k f_b f_messageLength f_sentLength f_receivedLength f_state f_resultLength f_errorCount f_erasureCount m (nI n + (-1)) a_message a_sent a_received a_flags a_delivered a_changes a_touched a_word a_weights a_syndromes a_places a_rows a_values a_exponents := by
  refine ⟨_, pk_loopD (fun m i s => i ≤ n → wY_solve_241 post (nI n) f_p f_k f_b f_messageLength f_sentLength f_receivedLength f_state f_resultLength f_errorCount f_erasureCount m (nI i + (-1)) a_message a_sent a_received a_flags a_delivered a_changes a_touched a_word a_weights a_syndromes a_places a_rows s a_exponents) (fun i s => ∃ v : Nat → F, (∀ u, i ≤ u → u < n → s u = em (v u)) ∧ ∀ u, i ≤ u → u < n → R u u * v u = R u n + sm_s (fun k => R u (u + 1 + k) * v (u + 1 + k)) (n - 1 - u)) ?_ ?_ n a_values ⟨fun _ => 0, fun u h1 h2 => absurd h2 (by omega), fun u h1 h2 => absurd h2 (by omega)⟩ (Nat.le_refl _)⟩
  · intro m s ⟨v, h1, h2⟩ _
    refine br_t (by decide) ?_
    exact h s v (fun u hu => h1 u (by omega) hu) (fun u hu => h2 u (by omega) hu)
  · intro m i s ⟨v, h1, h2⟩ K hi
    have K := fun s' b => K s' b (by omega)
    show wY_solve_241 post (nI n) f_p f_k f_b f_messageLength f_sentLength f_receivedLength f_state f_resultLength f_errorCount f_erasureCount (m + 1) (nI (i + 1) + (-1)) a_message a_sent a_received a_flags a_delivered a_changes a_touched a_word a_weights a_syndromes a_places a_rows s a_exponents
    rw [pk_m1]
    refine br_f (nI_pos (by omega)) ⟨ix_9i (by omega) (by omega), nm_r (e' := em (R i n)) (by rw [ix_9c (by omega) (by omega)]; exact hR i (by omega) n (by omega)) (nm_r (nI_1 i) ?_)⟩
    refine ys_262 E (R := R) (v := v) hp hn (by omega) hR (fun k a b => h1 k (by omega) b) (hd i (by omega)) (K _ ?_) rfl
    have inv := fz_i (hd i (by omega))
    have co : ∀ u, i ≤ u → u < n → sm_s (fun k => R u (u + 1 + k) * (if u + 1 + k = i then (R i n + sm_s (fun k => R i (i + 1 + k) * v (i + 1 + k)) (n - 1 - i)) * (R i i)⁻¹ else v (u + 1 + k))) (n - 1 - u) = sm_s (fun k => R u (u + 1 + k) * v (u + 1 + k)) (n - 1 - u) := by
      intro u h1 h2
      exact sm_congr (fun k _ => by rw [if_neg (by omega)])
    refine ⟨fun u => if u = i then (R i n + sm_s (fun k => R i (i + 1 + k) * v (i + 1 + k)) (n - 1 - i)) * (R i i)⁻¹ else v u, ?_, ?_⟩
    · intro u a b
      by_cases e : u = i
      · subst e
        show _ = em (if u = u then _ else _)
        rw [pk_us, if_pos rfl]
      · show _ = em (if u = i then _ else _)
        rw [pk_un e, if_neg e]
        exact h1 u (by omega) b
    · intro u a b
      rw [co u a b]
      show R u u * (if u = i then _ else v u) = _
      by_cases e : u = i
      · subst e
        rw [if_pos rfl]
        generalize R u n + sm_s (fun k => R u (u + 1 + k) * v (u + 1 + k)) (n - 1 - u) = A
        have : R u u * (A * (R u u)⁻¹) = A * (R u u * (R u u)⁻¹) := by grind
        rw [this, inv]; grind
      · rw [if_neg e]
        exact h2 u (by omega) b
theorem ys_207 {F : Type} [Lean.Grind.Field F] [Lean.Grind.IsCharP F 2] {em : F → Int32} {al : F} (E : em_P em al) {post : Int32 → SY → Prop} {R : Nat → Nat → F} {p n : Nat} (hp : p ≤ 8) (hn : n ≤ p) (hR : mr_P em p n R a_rows) (hd : ∀ u, u < n → R u u ≠ 0)
    (h1 : (∀ r, n ≤ r → r < p → R r n = 0) → ∀ vs (v : Nat → F), (∀ u, u < n → vs u = em (v u)) → (∀ u, u < n → R u u * v u = R u n + sm_s (fun k => R u (u + 1 + k) * v (u + 1 + k)) (n - 1 - u)) → post 1 (nI p, f_k, f_b, f_messageLength, f_sentLength, f_receivedLength, f_state, f_resultLength, f_errorCount, f_erasureCount, a_message, a_sent, a_received, a_flags, a_delivered, a_changes, a_touched, a_word, a_weights, a_syndromes, a_places, a_rows, vs, a_exponents))
    (h0 : ∀ r, n ≤ r → r < p → R r n ≠ 0 → post 0 (nI p, f_k, f_b, f_messageLength, f_sentLength, f_receivedLength, f_state, f_resultLength, f_errorCount, f_erasureCount, a_message, a_sent, a_received, a_flags, a_delivered, a_changes, a_touched, a_word, a_weights, a_syndromes, a_places, a_rows, a_values, a_exponents)) : ∃ m, wY_solve_207 post (nI n) (nI p) f_k f_b f_messageLength f_sentLength f_receivedLength f_state f_resultLength f_errorCount f_erasureCount a_message a_sent a_received a_flags a_delivered a_changes a_touched a_word a_weights a_syndromes a_places a_rows a_values a_exponents m (nI n) := by
  refine pk_loop (σ := Unit) (fun m i _ => n ≤ i → wY_solve_207 post (nI n) (nI p) f_k f_b f_messageLength f_sentLength f_receivedLength f_state f_resultLength f_errorCount f_erasureCount a_message a_sent a_received a_flags a_delivered a_changes a_touched a_word a_weights a_syndromes a_places a_rows a_values a_exponents m (nI i)) (fun i _ => ∀ r, n ≤ r → r < i → R r n = 0) p n () hn (fun r a b => absurd b (by omega)) ?_ ?_ |> Exists.imp (fun m hm => hm (Nat.le_refl _))
  · intro m _ hz _
    refine pk_le p p (fun _ => nm_r (sb_1 _) ?_) (fun w => absurd w (by omega))
    exact ys_241 E hp hn hR hd (h1 hz)
  · intro m i _ hi hz K hni
    have K := fun s' b => K s' b (by omega)
    refine pk_le p i (fun w => absurd w (by omega)) (fun _ => ⟨ix_9i (by omega) (by omega), ?_⟩)
    rw [ix_9c (by omega) (by omega), hR i hi n (by omega)]
    by_cases z : R i n = 0
    · refine br_t ((em_z E).mpr z) (nm_r (nI_1 i) (K () ?_))
      intro r a b
      by_cases e : r = i
      · rw [e]; exact z
      · exact hz r a (by omega)
    · exact br_f (em_nz E z) (h0 i hni hi z)
theorem ys_123 {F : Type} [Lean.Grind.Field F] [Lean.Grind.IsCharP F 2] {em : F → Int32} {al : F} (E : em_P em al) {post : Int32 → SY → Prop} {J75 J97 : Int32 → (Nat → Int32) → (Nat → Int32) → (Nat → Int32) → (Nat → Int32) → (Nat → Int32) → (Nat → Int32) → (Nat → Int32) → (Nat → Int32) → (Nat → Int32) → (Nat → Int32) → (Nat → Int32) → (Nat → Int32) → (Nat → Int32) → (Nat → Int32) → Prop} {R : Nat → Nat → F} {p n d r : Nat} (hp : p ≤ 8) (hn : n ≤ p) (hd : d < n) (hdr : d < r) (hr : r < p) (hR : mr_P em p n R a_rows) (pv fa : F) (hpv : R d d = pv) (hfa : R r d = fa)
    (hJ : ∀ a, mr_P em p n (el_1 R d r (n + 1)) a → J97 (nI (r + 1)) a_message a_sent a_received a_flags a_delivered a_changes a_touched a_word a_weights a_syndromes a_places a a_values a_exponents) : ∃ m, wY_solve_123 post J75 J97 (nI n) (nI d) (em pv) (nI r) (em fa) f_p f_k f_b f_messageLength f_sentLength f_receivedLength f_state f_resultLength f_errorCount f_erasureCount m (nI d) a_message a_sent a_received a_flags a_delivered a_changes a_touched a_word a_weights a_syndromes a_places a_rows a_values a_exponents := by
  refine pk_loop (fun m i s => d ≤ i → wY_solve_123 post J75 J97 (nI n) (nI d) (em pv) (nI r) (em fa) f_p f_k f_b f_messageLength f_sentLength f_receivedLength f_state f_resultLength f_errorCount f_erasureCount m (nI i) a_message a_sent a_received a_flags a_delivered a_changes a_touched a_word a_weights a_syndromes a_places s a_values a_exponents) (fun i s => mr_P em p n (el_1 R d r i) s) (n + 1) d a_rows (by omega) ?_ ?_ ?_ |> Exists.imp (fun m hm => hm (Nat.le_refl _))
  · intro r' hr' c hc
    rw [el_1f (by omega)]
    exact hR r' hr' c hc
  · intro m s hs _
    exact pk_lt n (n + 1) (fun _ => nm_r (nI_1 r) (hJ s hs)) (fun w => absurd w (by omega))
  · intro m i s hi hs K hdi
    have K := fun s' b => K s' b (by omega)
    have a1 : s (r * 9 + i) = em (R r i) := by
      rw [hs r hr i (by omega), el_1f (by omega)]
    have a2 : s (d * 9 + i) = em (R d i) := by
      rw [hs d (by omega) i (by omega), el_1f (by omega)]
    refine pk_lt n i (fun w => absurd w (by omega)) (fun _ => ⟨ix_9i (by omega) (by omega), ?_⟩)
    refine yp_mul E (R r i) pv (by rw [ix_9c (show r < 8 by omega) (show i < 9 by omega)]; exact a1) rfl ⟨ix_9i (by omega) (by omega), ?_⟩
    refine yp_mul E (R d i) fa (by rw [ix_9c (show d < 8 by omega) (show i < 9 by omega)]; exact a2) rfl ⟨ix_9i (by omega) (by omega), nm_r (e' := upd s (r * 9 + i) (em (R r i * R d d + R d i * R r d))) (by rw [ix_9c (show r < 8 by omega) (show i < 9 by omega), em_add E, hpv, hfa]) (nm_r (nI_1 i) (K _ ?_))⟩
    intro r' hr' c hc
    by_cases q : r' = r ∧ c = i
    · rw [q.1, q.2, pk_us, el_1t ⟨rfl, hdi, by omega⟩]
    · rw [pk_un (by omega), hs r' hr' c hc]
      by_cases w : r' = r ∧ d ≤ c ∧ c < i
      · rw [el_1t w, el_1t ⟨w.1, w.2.1, by omega⟩]
      · rw [el_1f w, el_1f (by omega)]
theorem ys_97 {F : Type} [Lean.Grind.Field F] [Lean.Grind.IsCharP F 2] {em : F → Int32} {al : F} (E : em_P em al) {post : Int32 → SY → Prop} {J75 : Int32 → (Nat → Int32) → (Nat → Int32) → (Nat → Int32) → (Nat → Int32) → (Nat → Int32) → (Nat → Int32) → (Nat → Int32) → (Nat → Int32) → (Nat → Int32) → (Nat → Int32) → (Nat → Int32) → (Nat → Int32) → (Nat → Int32) → (Nat → Int32) → Prop} {R : Nat → Nat → F} {p n d : Nat} (hp : p ≤ 8) (hn : n ≤ p) (hd : d < n) (hR : mr_P em p n R a_rows)
    (hJ : ∀ a, mr_P em p n (el_s n d R) a → J75 (nI (d + 1)) a_message a_sent a_received a_flags a_delivered a_changes a_touched a_word a_weights a_syndromes a_places a a_values a_exponents) : ∃ m, wY_solve_97 post J75 (nI n) (nI d) (em (R d d)) (nI p) f_k f_b f_messageLength f_sentLength f_receivedLength f_state f_resultLength f_errorCount f_erasureCount m (nI (d + 1)) a_message a_sent a_received a_flags a_delivered a_changes a_touched a_word a_weights a_syndromes a_places a_rows a_values a_exponents := by
  refine pk_loop (fun m i s => d < i → wY_solve_97 post J75 (nI n) (nI d) (em (R d d)) (nI p) f_k f_b f_messageLength f_sentLength f_receivedLength f_state f_resultLength f_errorCount f_erasureCount m (nI i) a_message a_sent a_received a_flags a_delivered a_changes a_touched a_word a_weights a_syndromes a_places s a_values a_exponents) (fun i s => mr_P em p n (el_2 R d i) s) p (d + 1) a_rows (by omega) ?_ ?_ ?_ |> Exists.imp (fun m hm => hm (by omega))
  · intro r' hr' c hc
    rw [el_2f (by omega)]
    exact hR r' hr' c hc
  · intro m s hs _
    refine pk_le p p (fun _ => nm_r (nI_1 d) (hJ s ?_)) (fun w => absurd w (by omega))
    intro r hr c hc
    rw [hs r hr c hc]
    unfold el_s
    by_cases q : d < r ∧ d ≤ c ∧ c ≤ n
    · rw [if_pos q, el_2t ⟨q.1, hr, q.2.1⟩]
    · rw [if_neg q, el_2f (fun w => q ⟨w.1, w.2.2, hc⟩)]
  · intro m i s hi hs K hdi
    have K := fun s' b => K s' b (by omega)
    have a1 : s (i * 9 + d) = em (R i d) := by
      rw [hs i hi d (by omega), el_2f (by omega)]
    refine pk_le p i (fun w => absurd w (by omega)) (fun _ => ⟨ix_9i (by omega) (by omega), nm_r (e' := em (R i d)) (by rw [ix_9c (by omega) (by omega)]; exact a1) ?_⟩)
    refine ys_123 E hp hn hd hdi hi hs (R d d) (R i d) (el_2f (by omega)) (el_2f (by omega)) (fun a ha => K a ?_)
    intro r hr c hc
    rw [ha r hr c hc]
    by_cases q : r = i ∧ d ≤ c
    · have e1 : el_2 R d i i c = R i c := el_2f (by omega)
      have e2 : el_2 R d i d d = R d d := el_2f (by omega)
      have e3 : el_2 R d i d c = R d c := el_2f (by omega)
      have e4 : el_2 R d i i d = R i d := el_2f (by omega)
      have e5 : el_2 R d (i + 1) i c = R i c * R d d + R d c * R i d := el_2t ⟨hdi, by omega, q.2⟩
      rw [el_1t ⟨q.1, q.2, by omega⟩, q.1, e1, e2, e3, e4, e5]
    · rw [el_1f (fun w => q ⟨w.1, w.2.1⟩)]
      by_cases w : d < r ∧ r < i ∧ d ≤ c
      · rw [el_2t w, el_2t ⟨w.1, by omega, w.2.2⟩]
      · rw [el_2f w, el_2f (by omega)]
theorem ys_solve {F : Type} [Lean.Grind.Field F] [Lean.Grind.IsCharP F 2] {em : F → Int32} {al : F} (E : em_P em al) {post : Int32 → SY → Prop} {R : Nat → Nat → F} {pl : Nat → Nat} {p n : Nat} (hp : p ≤ 8) (hn : n ≤ p) (hpl : ∀ u, u < n → a_places u = nI (pl u) ∧ pl u < 18) (hwt : ∀ j, j < p → ∀ u, u < n → a_weights (j * 18 + pl u) = em (R j u)) (hsy : ∀ j, j < p → a_syndromes j = em (R j n)) (hN : el_NS n R)
    (h1 : ∀ a vs (v : Nat → F), (∀ u, u < n → vs u = em (v u)) → (∀ j, j < p → sm_s (fun c => R j c * v c) n = R j n) → post 1 (nI p, f_k, f_b, f_messageLength, f_sentLength, f_receivedLength, f_state, f_resultLength, f_errorCount, f_erasureCount, a_message, a_sent, a_received, a_flags, a_delivered, a_changes, a_touched, a_word, a_weights, a_syndromes, a_places, a, vs, a_exponents))
    (h0 : ∀ a, (∀ y : Nat → F, ¬ ∀ j, j < p → sm_s (fun c => R j c * y c) n = R j n) → post 0 (nI p, f_k, f_b, f_messageLength, f_sentLength, f_receivedLength, f_state, f_resultLength, f_errorCount, f_erasureCount, a_message, a_sent, a_received, a_flags, a_delivered, a_changes, a_touched, a_word, a_weights, a_syndromes, a_places, a, a_values, a_exponents)) : wpY_solve post (nI p, f_k, f_b, f_messageLength, f_sentLength, f_receivedLength, f_state, f_resultLength, f_errorCount, f_erasureCount, a_message, a_sent, a_received, a_flags, a_delivered, a_changes, a_touched, a_word, a_weights, a_syndromes, a_places, a_rows, a_values, a_exponents) (nI n) := by
  refine pk_loop (fun m j s => wY_solve_2 post (nI n) (nI p) f_k f_b f_messageLength f_sentLength f_receivedLength f_state f_resultLength f_errorCount f_erasureCount m (nI j) a_message a_sent a_received a_flags a_delivered a_changes a_touched a_word a_weights a_syndromes a_places s a_values a_exponents) (fun j s => mr_P em j n R s) p 0 a_rows (by omega) (fun r hr => absurd hr (by omega)) ?_ ?_
  · intro m s hs
    refine pk_le p p (fun _ => ?_) (fun w => absurd w (by omega))
    refine pk_loop (fun m d s => wY_solve_75 post (nI n) (nI p) f_k f_b f_messageLength f_sentLength f_receivedLength f_state f_resultLength f_errorCount f_erasureCount m (nI d) a_message a_sent a_received a_flags a_delivered a_changes a_touched a_word a_weights a_syndromes a_places s a_values a_exponents) (fun d s => mr_P em p n (el_l n R d) s) n 0 s (by omega) hs ?_ ?_
    · intro m s hs
      obtain ⟨_, hd, _⟩ := el_inv hN n (Nat.le_refl _)
      refine pk_le n n (fun _ => ?_) (fun w => absurd w (by omega))
      refine ys_207 E hp hn hs hd (fun hz vs v hv he => ?_) (fun r a b z => ?_)
      · exact h1 s vs v hv (so_yes hN hn hz v he)
      · exact h0 s (fun y => so_no hN a b z y)
    · intro m d s hd hs K
      refine pk_le n d (fun w => absurd w (by omega)) (fun _ => ⟨ix_9i (by omega) (by omega), nm_r (e' := em (el_l n R d d d)) (by rw [ix_9c (by omega) (by omega)]; exact hs d (by omega) d (by omega)) (nm_r (nI_1 d) ?_)⟩)
      exact ys_97 E hp hn hd hs (fun a ha => K a ha)
  · intro m j s hj hs K
    refine pk_le p j (fun w => absurd w (by omega)) (fun _ => ?_)
    refine pk_loop (fun m' u s => wY_solve_12 post (wY_solve_2 post (nI n) (nI p) f_k f_b f_messageLength f_sentLength f_receivedLength f_state f_resultLength f_errorCount f_erasureCount m) (nI n) (nI j) (nI p) f_k f_b f_messageLength f_sentLength f_receivedLength f_state f_resultLength f_errorCount f_erasureCount m' (nI u) a_message a_sent a_received a_flags a_delivered a_changes a_touched a_word a_weights a_syndromes a_places s a_values a_exponents) (fun u s => mr_P em j n R s ∧ ∀ c, c < u → s (j * 9 + c) = em (R j c)) n 0 s (by omega) ⟨hs, fun c hc => absurd hc (by omega)⟩ ?_ ?_
    · intro m' s hs
      refine pk_le n n (fun _ => ⟨pk_in j 8 (by omega), ix_9i (by omega) (by omega), nm_r (e' := upd s (j * 9 + n) (em (R j n))) (by rw [ix_9c (by omega) (by omega), nI_clamp (by omega), hsy j hj]) (nm_r (nI_1 j) (K _ ?_))⟩) (fun w => absurd w (by omega))
      intro r hr c hc
      by_cases e : r = j ∧ c = n
      · rw [e.1, e.2, pk_us]
      · rw [pk_un (by omega)]
        by_cases q : r = j
        · rw [q]; exact hs.2 c (by omega)
        · exact hs.1 r (by omega) c hc
    · intro m' u s hu hs K2
      have ix : nI j * 18 + nI (pl u) = nI (j * 18 + pl u) := by
        show nI j * nI 18 + nI (pl u) = _
        rw [pk_mul, nI_add]
      have plu := (hpl u hu).2
      have pe : a_places (nI u).toNatClampNeg = nI (pl u) := by rw [nI_clamp (by omega)]; exact (hpl u hu).1
      refine pk_le n u (fun w => absurd w (by omega)) (fun _ => ⟨pk_in u 18 (by omega), by rw [pe, ix]; exact vp_in_nI (by omega) (by omega), ix_9i (by omega) (by omega), nm_r (e' := upd s (j * 9 + u) (em (R j u))) (by rw [ix_9c (by omega) (by omega), pe, ix, nI_clamp (by omega), hwt j hj u hu]) (nm_r (nI_1 u) (K2 _ ⟨?_, ?_⟩))⟩)
      · intro r hr c hc
        rw [pk_un (by omega)]
        exact hs.1 r hr c hc
      · intro c hc
        by_cases e : c = u
        · rw [e, pk_us]
        · rw [pk_un (by omega)]; exact hs.2 c (by omega)
end
end
section
/-! the reference's decode -/
/-- the number whose bits are P below n -/
def fm_m (P : Nat → Bool) : Nat → Nat
  | 0 => 0
  | n + 1 => fm_m P n ||| ((if P n = true then 1 else 0) <<< n)
theorem fm_b (P : Nat → Bool) (k : Nat) : ∀ n, (fm_m P n).testBit k = (decide (k < n) && P k) := by
  intro n
  induction n with
  | zero => show (0 : Nat).testBit k = _; simp
  | succ n ih =>
    show (fm_m P n ||| ((if P n = true then 1 else 0) <<< n)).testBit k = _
    rw [Nat.testBit_or, ih, Nat.testBit_shiftLeft]
    by_cases e : k = n
    · subst e
      cases q : P k <;> simp
    · by_cases l : k < n
      · simp [l, show ¬ k ≥ n by omega, show k < n + 1 by omega]
      · have h1 : k - n ≠ 0 := by omega
        have z : (if P n = true then 1 else 0 : Nat).testBit (k - n) = false := by
          cases P n
          · simp
          · rw [if_pos rfl, show k - n = (k - n - 1) + 1 by omega, Nat.testBit_succ]
            simp
        rw [z]
        simp [l, show ¬ k < n + 1 by omega]
theorem fm_lt (P : Nat → Bool) (n : Nat) : fm_m P n < 2 ^ n := by
  apply Nat.lt_pow_two_of_testBit
  intro i hi
  rw [fm_b]
  simp [show ¬ i < n by omega]
theorem fm_and (P : Nat → Bool) (n m : Nat) : m &&& fm_m P n = fm_m P n ↔ ∀ k, k < n → P k = true → m.testBit k = true := by
  constructor
  · intro h k hk hp
    have a : (m &&& fm_m P n).testBit k = (fm_m P n).testBit k := by rw [h]
    rw [Nat.testBit_and, fm_b, hp, decide_eq_true hk] at a
    simpa using a
  · intro h
    apply Nat.eq_of_testBit_eq
    intro k
    rw [Nat.testBit_and, fm_b]
    by_cases l : k < n
    · cases q : P k with
      | true => rw [h k l q]; simp
      | false => simp
    · simp [l]
theorem bI_sl (b : Bool) {i : Nat} (hi : i < 31) : bI_b b <<< (nI i &&& 31) = nI ((if b = true then 1 else 0) <<< i) := by
  have p : 2 ^ i ≤ 2 ^ 30 := Nat.pow_le_pow_right (by decide) (by omega)
  cases b with
  | true => exact yb_sl (n := 1) (by omega) (by omega)
  | false => exact yb_sl (n := 0) (by omega) (by omega)
theorem yd_cmp {p n s : Nat} (hp : p < 1000) (hn : n < 1000) (hs : s < 1000) : nI p < 2 * nI n - nI s ↔ p + s < 2 * n := by
  have a : (2 : Int32) * nI n = nI (2 * n) := pk_mul 2 n
  rw [a, Int32.lt_iff_toInt_lt, pk_sub_toInt (by omega) (by omega), nI_toInt (by omega)]
  omega
section
variable {f_p f_k f_b f_messageLength f_sentLength f_receivedLength f_state f_resultLength f_errorCount f_erasureCount : Int32} {a_message a_sent a_received a_flags a_delivered a_changes a_touched a_word a_weights a_syndromes a_places a_rows a_values a_exponents : Nat → Int32}
theorem yf_cnt {post : Int32 → Prop} {N : Nat} {fl : Nat → Bool} (hN : N ≤ 18) (hf : ∀ i, i < N → a_flags i = bI_b (fl i)) (h : post (nI (ct_c fl N))) : wpY_countFlags post (f_p, f_k, f_b, f_messageLength, f_sentLength, nI N, f_state, f_resultLength, f_errorCount, f_erasureCount, a_message, a_sent, a_received, a_flags, a_delivered, a_changes, a_touched, a_word, a_weights, a_syndromes, a_places, a_rows, a_values, a_exponents) := by
  refine pk_loop (fun n i s => wY_countFlags_4 post f_p f_k f_b f_messageLength f_sentLength (nI N) f_state f_resultLength f_errorCount f_erasureCount a_message a_sent a_received a_flags a_delivered a_changes a_touched a_word a_weights a_syndromes a_places a_rows a_values a_exponents n s (nI i)) (fun i s => s = nI (ct_c fl i)) N 0 0 (by omega) rfl ?_ ?_
  · intro n s e
    exact pk_le N N (fun _ => by rw [e]; exact h) (fun w => absurd w (by omega))
  · intro n i s hi e K
    subst e
    refine pk_le N i (fun w => absurd w (by omega)) (fun _ => ⟨pk_in i 18 (by omega), nm_r (e' := nI (ct_c fl (i + 1))) ?_ (nm_r (nI_1 i) (K _ rfl))⟩)
    rw [nI_clamp (by omega), hf i hi]
    cases q : fl i with
    | true => rw [ct_nt q]; exact nI_1 _
    | false => rw [ct_nf q]; exact Int32.add_zero _
theorem yd_161 {F : Type} [Lean.Grind.Field F] [Lean.Grind.IsCharP F 2] {em : F → Int32} {al : F} (E : em_P em al) {post : SY → Prop} {J : Int32 → Int32 → Int32 → (Nat → Int32) → (Nat → Int32) → (Nat → Int32) → (Nat → Int32) → (Nat → Int32) → (Nat → Int32) → (Nat → Int32) → (Nat → Int32) → (Nat → Int32) → (Nat → Int32) → (Nat → Int32) → (Nat → Int32) → (Nat → Int32) → (Nat → Int32) → Prop} {i : Nat} (hi : i < 18) (ci : F) (hc : a_changes i = em ci) (hJ : J (nI (i + 1)) (if nz_b ci = true then 2 else f_state) f_errorCount a_message a_sent a_received a_flags a_delivered a_changes a_touched a_word a_weights a_syndromes a_places a_rows a_values a_exponents) : wY_deliver_161 post J (nI i) f_p f_k f_b f_messageLength f_sentLength f_receivedLength f_state f_resultLength f_errorCount f_erasureCount a_message a_sent a_received a_flags a_delivered a_changes a_touched a_word a_weights a_syndromes a_places a_rows a_values a_exponents := by
  refine ⟨pk_in i 18 hi, ?_⟩
  rw [nI_clamp (by omega), hc]
  by_cases z : ci = 0
  · rw [nz_f.mpr z, if_neg (by decide)] at hJ
    exact br_t ((em_z E).mpr z) (nm_r (nI_1 i) hJ)
  · rw [nz_t.mpr z, if_pos rfl] at hJ
    exact br_f (em_nz E z) (nm_r (nI_1 i) hJ)
theorem yd_132 {F : Type} [Lean.Grind.Field F] [Lean.Grind.IsCharP F 2] {em : F → Int32} {al : F} (E : em_P em al) {post : SY → Prop} {J : Int32 → Int32 → Int32 → (Nat → Int32) → (Nat → Int32) → (Nat → Int32) → (Nat → Int32) → (Nat → Int32) → (Nat → Int32) → (Nat → Int32) → (Nat → Int32) → (Nat → Int32) → (Nat → Int32) → (Nat → Int32) → (Nat → Int32) → (Nat → Int32) → (Nat → Int32) → Prop} {i : Nat} (hi : i < 18) (ci : F) (hc : a_changes i = em ci) (fi : Bool) (hf : a_flags i = bI_b fi) {z0 : Int32} (hJ : J (nI (i + 1)) (if nz_b ci = true then 2 else f_state) (if (!fi && nz_b ci) = true then f_errorCount + 1 else f_errorCount) a_message a_sent a_received a_flags a_delivered a_changes (upd a_touched i z0) a_word a_weights a_syndromes a_places a_rows a_values a_exponents) : wY_deliver_132 post J (nI i) z0 (nI i) f_p f_k f_b f_messageLength f_sentLength f_receivedLength f_state f_resultLength f_errorCount f_erasureCount a_message a_sent a_received a_flags a_delivered a_changes a_touched a_word a_weights a_syndromes a_places a_rows a_values a_exponents := by
  have cl : (nI i).toNatClampNeg = i := nI_clamp (by omega)
  refine ⟨pk_in i 18 hi, nm_r (e' := upd a_touched i z0) (by rw [cl]) ⟨pk_in i 18 hi, ?_⟩⟩
  rw [cl]
  refine bI_br hf (fun f => ⟨pk_in i 18 hi, ?_⟩) (fun f => ?_)
  · rw [hc]
    by_cases z : ci = 0
    · rw [f, nz_f.mpr z] at hJ
      exact br_t ((em_z E).mpr z) (yd_161 E hi ci hc (by rw [nz_f.mpr z]; exact hJ))
    · rw [f, nz_t.mpr z] at hJ
      exact br_f (em_nz E z) (nm_e (yd_161 E hi ci hc (by rw [nz_t.mpr z]; exact hJ)))
  · rw [f] at hJ
    exact yd_161 E hi ci hc hJ
theorem yd_76 {F : Type} [Lean.Grind.Field F] [Lean.Grind.IsCharP F 2] {em : F → Int32} {al : F} (E : em_P em al) {post : SY → Prop} {e rc : Nat → F} {N s : Nat} {fl : Nat → Bool} (hN : N ≤ 18) (hc : ∀ i, i < N → a_changes i = em (e i)) (hw : ∀ i, i < N → a_received i = em (rc i)) (hf : ∀ i, i < N → a_flags i = bI_b (fl i))
    (h : ∀ dl tc, (∀ i, i < N → dl i = em (rc i + e i)) → (∀ i, i < N → tc i = bI_b (fl i || ch_b fl e i)) → post (f_p, f_k, f_b, f_messageLength, f_sentLength, nI N, nI (st_s N e), nI N, nI (ct_c (ch_b fl e) N), nI s, a_message, a_sent, a_received, a_flags, dl, a_changes, tc, a_word, a_weights, a_syndromes, a_places, a_rows, a_values, a_exponents)) : ∃ n, wY_deliver_76 post f_p f_k f_b f_messageLength f_sentLength (nI N) (nI N) (nI s) n 0 1 0 a_message a_sent a_received a_flags a_delivered a_changes a_touched a_word a_weights a_syndromes a_places a_rows a_values a_exponents := by
  refine pk_loop (σ := Int32 × Int32 × (Nat → Int32) × (Nat → Int32)) (fun n i q => wY_deliver_76 post f_p f_k f_b f_messageLength f_sentLength (nI N) (nI N) (nI s) n (nI i) q.1 q.2.1 a_message a_sent a_received a_flags (q.2.2.1) a_changes (q.2.2.2) a_word a_weights a_syndromes a_places a_rows a_values a_exponents) (fun i q => q.1 = nI (st_s i e) ∧ q.2.1 = nI (ct_c (ch_b fl e) i) ∧ (∀ k, k < i → q.2.2.1 k = em (rc k + e k)) ∧ ∀ k, k < i → q.2.2.2 k = bI_b (fl k || ch_b fl e k)) N 0 (1, 0, a_delivered, a_touched) (by omega) ⟨rfl, rfl, fun k hk => absurd hk (by omega), fun k hk => absurd hk (by omega)⟩ ?_ ?_
  · intro n q hq
    obtain ⟨x, y, dl, tc⟩ := q
    obtain ⟨g1, g2, g3, g4⟩ := hq
    dsimp only at g1 g2 g3 g4 ⊢
    subst g1 g2
    exact pk_le N N (fun _ => h dl tc g3 g4) (fun w => absurd w (by omega))
  · intro n i q hi hq K
    obtain ⟨x, y, dl, tc⟩ := q
    obtain ⟨g1, g2, g3, g4⟩ := hq
    dsimp only at g1 g2 g3 g4 K ⊢
    subst g1 g2
    have cl : (nI i).toNatClampNeg = i := nI_clamp (by omega)
    have go : ∀ z0 : Int32, z0 = bI_b (fl i || ch_b fl e i) → wY_deliver_132 post (wY_deliver_76 post f_p f_k f_b f_messageLength f_sentLength (nI N) (nI N) (nI s) n) (nI i) z0 (nI i) f_p f_k f_b f_messageLength f_sentLength (nI N) (nI (st_s i e)) (nI N) (nI (ct_c (ch_b fl e) i)) (nI s) a_message a_sent a_received a_flags (upd dl i (em (rc i + e i))) a_changes tc a_word a_weights a_syndromes a_places a_rows a_values a_exponents := by
      intro z0 hz
      refine yd_132 E (by omega) (e i) (hc i hi) (fl i) (hf i hi) ?_
      refine K ((if nz_b (e i) = true then 2 else nI (st_s i e)), (if (!fl i && nz_b (e i)) = true then nI (ct_c (ch_b fl e) i) + 1 else nI (ct_c (ch_b fl e) i)), upd dl i (em (rc i + e i)), upd tc i z0) ⟨?_, ?_, ?_, ?_⟩
      · show (if nz_b (e i) = true then 2 else nI (st_s i e)) = nI (st_s (i + 1) e)
        rw [st_n]
        cases nz_b (e i)
        · rw [if_neg (by decide), if_neg (by decide)]
        · rw [if_pos rfl, if_pos rfl]; rfl
      · show (if (!fl i && nz_b (e i)) = true then nI (ct_c (ch_b fl e) i) + 1 else nI (ct_c (ch_b fl e) i)) = _
        have d : ch_b fl e i = (!fl i && nz_b (e i)) := rfl
        cases w : (!fl i && nz_b (e i)) with
        | true => rw [if_pos rfl, ct_nt (d.trans w), nI_1]
        | false => rw [if_neg (by decide), ct_nf (d.trans w)]
      · intro k hk
        show upd dl i (em (rc i + e i)) k = _
        by_cases w : k = i
        · rw [w, pk_us]
        · rw [pk_un w]; exact g3 k (by omega)
      · intro k hk
        show upd tc i z0 k = _
        by_cases w : k = i
        · rw [w, pk_us, hz]
        · rw [pk_un w]; exact g4 k (by omega)
    refine pk_le N i (fun w => absurd w (by omega)) (fun _ => ⟨pk_in i 18 (by omega), pk_in i 18 (by omega), pk_in i 18 (by omega), nm_r (e' := upd dl i (em (rc i + e i))) (by rw [cl, hw i hi, hc i hi, em_add E]) ⟨pk_in i 18 (by omega), ?_⟩⟩)
    rw [cl]
    refine bI_br1 (hf i hi) (fun f => go 1 (by rw [f]; rfl)) (fun f => ⟨pk_in i 18 (by omega), ?_⟩)
    rw [hc i hi]
    by_cases z : e i = 0
    · exact br_t ((em_z E).mpr z) (go 0 (by unfold ch_b; rw [f, nz_f.mpr z]; rfl))
    · exact br_f (em_nz E z) (go 1 (by unfold ch_b; rw [f, nz_t.mpr z]; rfl))
theorem yd_del {F : Type} [Lean.Grind.Field F] [Lean.Grind.IsCharP F 2] {em : F → Int32} {al : F} (E : em_P em al) {post : SY → Prop} {v rc : Nat → F} {N s : Nat} {fl M : Nat → Bool} {pl : Nat → Nat} (hN : N ≤ 18) (h8 : ct_c M N ≤ 8) (hP : pl_P N M pl) (hpl : ∀ u, u < ct_c M N → a_places u = nI (pl u)) (hv : ∀ u, u < ct_c M N → a_values u = em (v u)) (hw : ∀ i, i < N → a_received i = em (rc i)) (hf : ∀ i, i < N → a_flags i = bI_b (fl i))
    (h : ∀ ch dl tc, (∀ i, i < N → ch i = em (pl_e M v i)) → (∀ i, i < N → dl i = em (rc i + pl_e M v i)) → (∀ i, i < N → tc i = bI_b (fl i || ch_b fl (pl_e M v) i)) → post (f_p, f_k, f_b, f_messageLength, f_sentLength, nI N, nI (st_s N (pl_e M v)), nI N, nI (ct_c (ch_b fl (pl_e M v)) N), nI s, a_message, a_sent, a_received, a_flags, dl, ch, tc, a_word, a_weights, a_syndromes, a_places, a_rows, a_values, a_exponents)) : wpY_deliver post (f_p, f_k, f_b, f_messageLength, f_sentLength, nI N, f_state, f_resultLength, f_errorCount, f_erasureCount, a_message, a_sent, a_received, a_flags, a_delivered, a_changes, a_touched, a_word, a_weights, a_syndromes, a_places, a_rows, a_values, a_exponents) (nI (ct_c M N)) (nI s) := by
  refine pk_loop (fun n i a => wY_deliver_2 post (nI (ct_c M N)) (nI s) f_p f_k f_b f_messageLength f_sentLength (nI N) f_state f_resultLength f_errorCount f_erasureCount n (nI i) a_message a_sent a_received a_flags a_delivered a a_touched a_word a_weights a_syndromes a_places a_rows a_values a_exponents) (fun i a => ∀ k, k < i → a k = 0) 18 0 a_changes (by omega) (fun k hk => absurd hk (by omega)) ?_ ?_
  · intro n a ha
    refine pk_le 18 18 (fun _ => ?_) (fun w => absurd w (by omega))
    refine pk_loop (fun n u a => wY_deliver_23 post (nI (ct_c M N)) (nI s) f_p f_k f_b f_messageLength f_sentLength (nI N) f_state f_resultLength f_errorCount f_erasureCount n (nI u) a_message a_sent a_received a_flags a_delivered a a_touched a_word a_weights a_syndromes a_places a_rows a_values a_exponents) (fun u a => ∀ i, i < N → a i = em (if M i = true ∧ ct_c M i < u then v (ct_c M i) else 0)) (ct_c M N) 0 a (by omega) (fun i hi => by rw [if_neg (by omega), em_0 E]; exact ha i (by omega)) ?_ ?_
    · intro n a ha
      refine pk_le (ct_c M N) (ct_c M N) (fun _ => ?_) (fun w => absurd w (by omega))
      have hc : ∀ i, i < N → a i = em (pl_e M v i) := by
        intro i hi
        rw [ha i hi]
        congr 1
        unfold pl_e
        cases q : M i with
        | true => rw [if_pos ⟨rfl, ct_lt hi q⟩, if_pos rfl]
        | false => rw [if_neg (fun w => nomatch w.1), if_neg (fun w => nomatch w)]
      exact yd_76 E hN hc hw hf (fun dl tc hdl htc => h a dl tc hc hdl htc)
    · intro n u a hu ha K
      obtain ⟨k, hk, hMk, hku⟩ := ct_sur hu
      have pk := hP k hk hMk
      rw [hku] at pk
      have cl : (nI u).toNatClampNeg = u := nI_clamp (by omega)
      have ck : (nI k).toNatClampNeg = k := nI_clamp (by omega)
      refine pk_le (ct_c M N) u (fun w => absurd w (by omega)) (fun _ => ⟨pk_in u 18 (by omega), pk_in u 8 (by omega), ?_⟩)
      rw [cl, hpl u hu, pk, ck, hv u hu]
      refine ⟨pk_in k 18 (by omega), nm_e (nm_r (nI_1 u) (K _ ?_))⟩
      intro i hi
      by_cases w : i = k
      · rw [w, pk_us, if_pos ⟨hMk, by omega⟩, hku]
      · rw [pk_un w, ha i hi]
        by_cases q : M i = true ∧ ct_c M i < u
        · rw [if_pos q, if_pos ⟨q.1, by omega⟩]
        · rw [if_neg q, if_neg]
          intro r
          apply q
          refine ⟨r.1, ?_⟩
          have : ct_c M i ≠ u := by
            intro z
            have := hP i hi r.1
            rw [z, pk] at this
            exact w this.symm
          omega
  · intro n i a hi ha K
    refine pk_le 18 i (fun w => absurd w (by omega)) (fun _ => ⟨pk_in i 18 (by omega), nm_e (nm_r (nI_1 i) (K _ ?_))⟩)
    intro k hk
    rw [nI_clamp (by omega)]
    by_cases w : k = i
    · rw [w, pk_us]
    · rw [pk_un w]; exact ha k (by omega)
theorem yd_124 {post : Int32 → SY → Prop} {J : Int32 → Int32 → Int32 → Int32 → Int32 → Int32 → Int32 → Int32 → Int32 → Int32 → Int32 → (Nat → Int32) → (Nat → Int32) → (Nat → Int32) → (Nat → Int32) → (Nat → Int32) → (Nat → Int32) → (Nat → Int32) → (Nat → Int32) → (Nat → Int32) → (Nat → Int32) → (Nat → Int32) → (Nat → Int32) → (Nat → Int32) → (Nat → Int32) → Prop} {x2 x3 : Int32} {m s p N : Nat} (hN : N ≤ 18) (hm : m < 2 ^ 30) (hp : p ≤ 8) (hs : s ≤ 18)
    (h : ∀ pls i, i ≤ N → (∀ k, k < i → m.testBit k = true → pls (ct_c m.testBit k) = nI k) → (i = N ∨ p + s < 2 * ct_c m.testBit i) → wY_decode_175 post J (nI s) x2 x3 (nI m) (nI (ct_c m.testBit i)) (nI p) f_k f_b f_messageLength f_sentLength (nI N) f_state f_resultLength f_errorCount f_erasureCount a_message a_sent a_received a_flags a_delivered a_changes a_touched a_word a_weights a_syndromes pls a_rows a_values a_exponents) : ∃ n, wY_decode_124 post J (nI s) x2 x3 (nI m) (nI p) f_k f_b f_messageLength f_sentLength (nI N) f_state f_resultLength f_errorCount f_erasureCount n 0 0 a_message a_sent a_received a_flags a_delivered a_changes a_touched a_word a_weights a_syndromes a_places a_rows a_values a_exponents := by
  refine pk_loop (σ := Int32 × (Nat → Int32)) (fun n i q => wY_decode_124 post J (nI s) x2 x3 (nI m) (nI p) f_k f_b f_messageLength f_sentLength (nI N) f_state f_resultLength f_errorCount f_erasureCount n q.1 (nI i) a_message a_sent a_received a_flags a_delivered a_changes a_touched a_word a_weights a_syndromes (q.2) a_rows a_values a_exponents) (fun i q => q.1 = nI (ct_c m.testBit i) ∧ ∀ k, k < i → m.testBit k = true → q.2 (ct_c m.testBit k) = nI k) N 0 (0, a_places) (by omega) ⟨rfl, fun k hk => absurd hk (by omega)⟩ ?_ ?_
  · intro n q hq
    obtain ⟨x, pls⟩ := q
    obtain ⟨g1, g2⟩ := hq
    dsimp only at g1 g2 ⊢
    subst g1
    exact pk_le N N (fun _ => h pls N (Nat.le_refl _) g2 (Or.inl rfl)) (fun w => absurd w (by omega))
  · intro n i q hi hq K
    obtain ⟨x, pls⟩ := q
    obtain ⟨g1, g2⟩ := hq
    dsimp only at g1 g2 K ⊢
    subst g1
    have cle := ct_le m.testBit i
    have cmp := yd_cmp (p := p) (n := ct_c m.testBit i) (s := s) (by omega) (by omega) (by omega)
    refine pk_le N i (fun w => absurd w (by omega)) (fun _ => br_c (fun c => h pls i (by omega) g2 (Or.inr (cmp.mp c))) (fun _ => ?_))
    by_cases b : m.testBit i = true
    · refine br_t ((yb_1 (by omega) (by omega)).mpr b) ⟨pk_in (ct_c m.testBit i) 18 (by omega), nm_r (e' := upd pls (ct_c m.testBit i) (nI i)) (by rw [nI_clamp (by omega)]) (nm_r (nI_1 _) (nm_r (nI_1 i) (K (nI (ct_c m.testBit i + 1), upd pls (ct_c m.testBit i) (nI i)) ⟨by rw [ct_nt b], ?_⟩)))⟩
      intro k hk hb
      show upd pls (ct_c m.testBit i) (nI i) (ct_c m.testBit k) = nI k
      by_cases w : k = i
      · rw [w, pk_us]
      · have := ct_lt (show k < i by omega) hb
        rw [pk_un (by omega)]
        exact g2 k (by omega) hb
    · have bf : m.testBit i = false := by
        cases q : m.testBit i with
        | false => rfl
        | true => exact absurd q b
      refine br_f (fun w => b ((yb_1 (by omega) (by omega)).mp w)) (nm_r (nI_1 i) (K (nI (ct_c m.testBit i), pls) ⟨by rw [ct_nf bf], ?_⟩))
      intro k hk hb
      by_cases w : k = i
      · rw [w, bf] at hb; exact nomatch hb
      · exact g2 k (by omega) hb
end
end
section
/-! the reference's decode, whole -/
/-- no vector on the cells of m explains the syndromes -/
def yd_N {F : Type} [Lean.Grind.Field F] (N p : Nat) (B X S : Nat → F) (m : Nat) : Prop := ∀ e : Nat → F, (∀ i, i < N → m.testBit i = false → e i = 0) → ¬ ∀ j, j < p → sy_s N B X e j = S j
/-- a delivery -/
def yd_G {F : Type} [Lean.Grind.Field F] (em : F → Int32) (N p : Nat) (B X S : Nat → F) (fl : Nat → Bool) (rc : Nat → F) (st rl ec er : Int32) (dl ch tc : Nat → Int32) : Prop :=
  ∃ e : Nat → F, gd_e N p B X S fl e ∧ st = nI (st_s N e) ∧ rl = nI N ∧ ec = nI (ct_c (ch_b fl e) N) ∧ er = nI (ct_c fl N) ∧ (∀ i, i < N → dl i = em (rc i + e i)) ∧ (∀ i, i < N → ch i = em (e i)) ∧ ∀ i, i < N → tc i = bI_b (fl i || ch_b fl e i)
theorem yd_gd {F : Type} [Lean.Grind.Field F] {N p m : Nat} {B X S : Nat → F} {fl : Nat → Bool} {v : Nat → F} (hsub : ∀ k, k < N → fl k = true → m.testBit k = true) (h : ¬ p + ct_c fl N < 2 * ct_c m.testBit N) (hs : ∀ j, j < p → sy_s N B X (pl_e m.testBit v) j = S j) : gd_e N p B X S fl (pl_e m.testBit v) := by
  refine ⟨?_, hs⟩
  have a : ct_c (fun i => fl i || ch_b fl (pl_e m.testBit v) i) N ≤ ct_c m.testBit N := by
    apply ct_sub
    intro i hi q
    cases b : m.testBit i with
    | true => rfl
    | false =>
      exfalso
      have z : pl_e m.testBit v i = 0 := pl_ez b
      cases f : fl i with
      | true => rw [hsub i hi f] at b; exact nomatch b
      | false =>
        have q : (fl i || ch_b fl (pl_e m.testBit v) i) = true := q
        unfold ch_b at q
        rw [f, nz_f.mpr z] at q
        exact nomatch q
  rw [ct_or (fun i hi f => by unfold ch_b; rw [f]; rfl)] at a
  omega
section
variable {f_p f_k f_b f_messageLength f_sentLength f_receivedLength f_state f_resultLength f_errorCount f_erasureCount : Int32} {a_message a_sent a_received a_flags a_delivered a_changes a_touched a_word a_weights a_syndromes a_places a_rows a_values a_exponents : Nat → Int32}
theorem yd_175 {F : Type} [Lean.Grind.Field F] [Lean.Grind.IsCharP F 2] {em : F → Int32} {al : F} (E : em_P em al) {post : Int32 → SY → Prop} {J : Int32 → Int32 → Int32 → Int32 → Int32 → Int32 → Int32 → Int32 → Int32 → Int32 → Int32 → (Nat → Int32) → (Nat → Int32) → (Nat → Int32) → (Nat → Int32) → (Nat → Int32) → (Nat → Int32) → (Nat → Int32) → (Nat → Int32) → (Nat → Int32) → (Nat → Int32) → (Nat → Int32) → (Nat → Int32) → (Nat → Int32) → (Nat → Int32) → Prop} {x2 x3 : Int32} {m p b N i : Nat} {rc : Nat → F} {fl : Nat → Bool} {S : Nat → F} (hN : N ≤ 18) (hp : p ≤ 8) (hw : ∀ i, i < N → a_received i = em (rc i)) (hf : ∀ i, i < N → a_flags i = bI_b (fl i)) (hwt : ∀ j, j < p → ∀ i, i < N → a_weights (j * 18 + i) = em (nd_B al N b i * nd_X al N i ^ j)) (hsy : ∀ j, j < p → a_syndromes j = em (S j))
    (hsub : ∀ k, k < N → fl k = true → m.testBit k = true) (hi : i ≤ N) (hpl : ∀ k, k < i → m.testBit k = true → a_places (ct_c m.testBit k) = nI k) (hor : i = N ∨ p + ct_c fl N < 2 * ct_c m.testBit i)
    (hbig : p + ct_c fl N < 2 * ct_c m.testBit N → J (nI (m + 1)) (nI p) f_k f_b f_messageLength f_sentLength (nI N) f_state f_resultLength f_errorCount f_erasureCount a_message a_sent a_received a_flags a_delivered a_changes a_touched a_word a_weights a_syndromes a_places a_rows a_values a_exponents)
    (hno : yd_N N p (nd_B al N b) (nd_X al N) S m → ∀ ro, J (nI (m + 1)) (nI p) f_k f_b f_messageLength f_sentLength (nI N) f_state f_resultLength f_errorCount f_erasureCount a_message a_sent a_received a_flags a_delivered a_changes a_touched a_word a_weights a_syndromes a_places ro a_values a_exponents)
    (hok : ∀ ro va st rl ec er dl ch tc, yd_G em N p (nd_B al N b) (nd_X al N) S fl rc st rl ec er dl ch tc → J (nI (m + 1)) (nI p) f_k f_b f_messageLength f_sentLength (nI N) st rl ec er a_message a_sent a_received a_flags dl ch tc a_word a_weights a_syndromes a_places ro va a_exponents) :
    wY_decode_175 post J (nI (ct_c fl N)) x2 x3 (nI m) (nI (ct_c m.testBit i)) (nI p) f_k f_b f_messageLength f_sentLength (nI N) f_state f_resultLength f_errorCount f_erasureCount a_message a_sent a_received a_flags a_delivered a_changes a_touched a_word a_weights a_syndromes a_places a_rows a_values a_exponents := by
  have l1 := ct_le m.testBit i
  have l2 := ct_le fl N
  have mon := ct_mon m.testBit hi
  have cmp := yd_cmp (p := p) (n := ct_c m.testBit i) (s := ct_c fl N) (by omega) (by omega) (by omega)
  refine br_c (fun c => nm_r (nI_1 m) (hbig (by have := cmp.mp c; omega))) (fun c => ?_)
  have c : ¬ p + ct_c fl N < 2 * ct_c m.testBit i := fun q => c (cmp.mpr q)
  have e : i = N := by
    rcases hor with h | h
    · exact h
    · exact absurd h c
  subst e
  have sle : ct_c fl i ≤ ct_c m.testBit i := ct_sub hsub
  have hP : pl_P i m.testBit (fun u => (a_places u).toNatClampNeg) := by
    intro k hk hb
    show (a_places (ct_c m.testBit k)).toNatClampNeg = k
    rw [hpl k hk hb, nI_clamp (by omega)]
  have hpe : ∀ u, u < ct_c m.testBit i → a_places u = nI ((a_places u).toNatClampNeg) := by
    intro u hu
    obtain ⟨k, hk, hb, rfl⟩ := ct_sur hu
    rw [hpl k hk hb, nI_clamp (by omega)]
  have hlt := fun u hu => pl_lt hP (u := u) hu
  refine ys_solve E (R := fun j c => if c < ct_c m.testBit i then nd_B al i b ((a_places c).toNatClampNeg) * nd_X al i ((a_places c).toNatClampNeg) ^ j else S j) (pl := fun u => (a_places u).toNatClampNeg) (n := ct_c m.testBit i) hp (by omega) (fun u hu => ⟨hpe u hu, Nat.lt_of_lt_of_le (hlt u hu).1 hN⟩) (fun j hj u hu => ?_) (fun j hj => ?_) ?_ (fun ro va v hv hs => ?_) (fun ro hs => ?_)
  · rw [if_pos hu]
    exact hwt j hj _ (hlt u hu).1
  · rw [if_neg (by omega)]
    exact hsy j hj
  · refine so_NS (B := fun u => nd_B al i b ((a_places u).toNatClampNeg)) (X := fun u => nd_X al i ((a_places u).toNatClampNeg)) ?_ (fun u _ => nd_B0 E _ _ _) (fun j c _ hc => if_pos hc)
    intro u w hu hw' q
    exact pl_inj hP hu hw' (nd_inj E hN _ _ (hlt u hu).1 (hlt w hw').1 q)
  · have sol : ∀ j, j < p → sy_s i (nd_B al i b) (nd_X al i) (pl_e m.testBit v) j = S j := by
      intro j hj
      have a := hs j hj
      rw [if_neg (by omega)] at a
      rw [← a]
      have p1 := pl_sum hP (fun k => nd_B al i b k * nd_X al i k ^ j) (pl_e m.testBit v) (fun k _ hb => pl_ez hb)
      have p2 : sm_s (fun u => nd_B al i b ((a_places u).toNatClampNeg) * nd_X al i ((a_places u).toNatClampNeg) ^ j * pl_e m.testBit v ((a_places u).toNatClampNeg)) (ct_c m.testBit i) = sm_s (fun c => (if c < ct_c m.testBit i then nd_B al i b ((a_places c).toNatClampNeg) * nd_X al i ((a_places c).toNatClampNeg) ^ j else S j) * v c) (ct_c m.testBit i) := by
        apply sm_congr
        intro u hu
        have := pl_ev hP v hu
        rw [if_pos hu, this]
      rw [← p2]
      rw [p1]
      unfold sy_s
      exact sm_congr (fun k _ => by grind)
    refine br_f (by decide) ?_
    refine yd_del E (M := m.testBit) (v := v) (fl := fl) (rc := rc) (pl := fun u => (a_places u).toNatClampNeg) hN (by omega) hP hpe hv hw hf (fun ch dl tc h1 h2 h3 => nm_r (nI_1 m) ?_)
    exact hok _ _ _ _ _ _ _ _ _ ⟨pl_e m.testBit v, yd_gd hsub c sol, rfl, rfl, rfl, rfl, h2, h1, h3⟩
  · refine br_t rfl (nm_r (nI_1 m) (hno ?_ ro))
    intro e he q
    apply hs (fun u => e ((a_places u).toNatClampNeg))
    intro j hj
    rw [if_neg (by omega)]
    refine Eq.trans ?_ (q j hj)
    have p1 := pl_sum hP (fun k => nd_B al i b k * nd_X al i k ^ j) e (fun k hk hb => he k hk hb)
    have p2 : sm_s (fun c => (if c < ct_c m.testBit i then nd_B al i b ((a_places c).toNatClampNeg) * nd_X al i ((a_places c).toNatClampNeg) ^ j else S j) * e ((a_places c).toNatClampNeg)) (ct_c m.testBit i) = sm_s (fun u => nd_B al i b ((a_places u).toNatClampNeg) * nd_X al i ((a_places u).toNatClampNeg) ^ j * e ((a_places u).toNatClampNeg)) (ct_c m.testBit i) := by
      apply sm_congr
      intro u hu
      rw [if_pos hu]
    rw [p2, p1]
    unfold sy_s
    exact sm_congr (fun k _ => by grind)
theorem yd_96 {F : Type} [Lean.Grind.Field F] [Lean.Grind.IsCharP F 2] {em : F → Int32} {al : F} (E : em_P em al) {post : Int32 → SY → Prop} {p b N : Nat} {rc : Nat → F} {fl : Nat → Bool} {S : Nat → F} (hN : N ≤ 18) (hp : p ≤ 8) (hw : ∀ i, i < N → a_received i = em (rc i)) (hf : ∀ i, i < N → a_flags i = bI_b (fl i)) (hwt : ∀ j, j < p → ∀ i, i < N → a_weights (j * 18 + i) = em (nd_B al N b i * nd_X al N i ^ j)) (hsy : ∀ j, j < p → a_syndromes j = em (S j))
    (hok : ∀ pl ro va st rl ec er dl ch tc, yd_G em N p (nd_B al N b) (nd_X al N) S fl rc st rl ec er dl ch tc → post st (nI p, f_k, f_b, f_messageLength, f_sentLength, nI N, st, rl, ec, er, a_message, a_sent, a_received, a_flags, dl, ch, tc, a_word, a_weights, a_syndromes, pl, ro, va, a_exponents))
    (hno : (¬ ∃ e, gd_e N p (nd_B al N b) (nd_X al N) S fl e) → ∀ pl ro va rl ec er dl ch tc, post 3 (nI p, f_k, f_b, f_messageLength, f_sentLength, nI N, 3, rl, ec, er, a_message, a_sent, a_received, a_flags, dl, ch, tc, a_word, a_weights, a_syndromes, pl, ro, va, a_exponents)) :
    ∃ n, wY_decode_96 post (nI (ct_c fl N)) (nI (fm_m fl N)) (nI (2 ^ N)) n 0 (nI p) f_k f_b f_messageLength f_sentLength (nI N) 3 f_resultLength f_errorCount f_erasureCount a_message a_sent a_received a_flags a_delivered a_changes a_touched a_word a_weights a_syndromes a_places a_rows a_values a_exponents := by
  have p18 : 2 ^ N ≤ 2 ^ 18 := Nat.pow_le_pow_right (by decide) hN
  have fml := fm_lt fl N
  have stn : ∀ e : Nat → F, ¬ nI (st_s N e) = 3 := by
    intro e
    rcases st_12 N e with q | q <;> rw [q] <;> decide
  refine pk_loop (σ := (Int32 × Int32 × Int32 × Int32) × ((Nat → Int32) × (Nat → Int32) × (Nat → Int32)) × ((Nat → Int32) × (Nat → Int32) × (Nat → Int32))) (fun n m q => wY_decode_96 post (nI (ct_c fl N)) (nI (fm_m fl N)) (nI (2 ^ N)) n (nI m) (nI p) f_k f_b f_messageLength f_sentLength (nI N) (q.1.1) (q.1.2.1) (q.1.2.2.1) (q.1.2.2.2) a_message a_sent a_received a_flags (q.2.1.1) (q.2.1.2.1) (q.2.1.2.2) a_word a_weights a_syndromes (q.2.2.1) (q.2.2.2.1) (q.2.2.2.2) a_exponents)
    (fun m q => (q.1.1 = 3 ∧ ∀ m', m' < m → (∀ k, k < N → fl k = true → m'.testBit k = true) → ¬ p + ct_c fl N < 2 * ct_c m'.testBit N → yd_N N p (nd_B al N b) (nd_X al N) S m') ∨ yd_G em N p (nd_B al N b) (nd_X al N) S fl rc q.1.1 q.1.2.1 q.1.2.2.1 q.1.2.2.2 q.2.1.1 q.2.1.2.1 q.2.1.2.2) (2 ^ N) 0 ((3, f_resultLength, f_errorCount, f_erasureCount), (a_delivered, a_changes, a_touched), (a_places, a_rows, a_values)) (by omega) (Or.inl ⟨rfl, fun m' hm' => absurd hm' (by omega)⟩) ?_ ?_
  · intro n q hq
    obtain ⟨⟨st, rl, ec, er⟩, ⟨dl, ch, tc⟩, pl, ro, va⟩ := q
    dsimp only at hq ⊢
    refine pk_le (2 ^ N) (2 ^ N) (fun _ => ?_) (fun w => absurd w (by omega))
    rcases hq with ⟨h1, h2⟩ | h
    · subst h1
      refine hno ?_ _ _ _ _ _ _ _ _ _
      intro ⟨e, he⟩
      have mb : ∀ k, k < N → (fm_m (fun i => fl i || ch_b fl e i) N).testBit k = (fl k || ch_b fl e k) := by
        intro k hk
        rw [fm_b, decide_eq_true hk, Bool.true_and]
      refine h2 (fm_m (fun i => fl i || ch_b fl e i) N) (fm_lt _ _) ?_ ?_ e ?_ he.2
      · intro k hk f
        rw [mb k hk, f]; rfl
      · rw [ct_congr mb, ct_or (fun i hi f => by unfold ch_b; rw [f]; rfl)]
        have := he.1
        omega
      · intro i hi z
        rw [mb i hi] at z
        unfold ch_b at z
        cases f : fl i with
        | true => rw [f] at z; exact nomatch z
        | false =>
          rw [f] at z
          exact nz_f.mp z
    · exact hok _ _ _ _ _ _ _ _ _ _ h
  · intro n m q hm hq K
    obtain ⟨⟨st, rl, ec, er⟩, ⟨dl, ch, tc⟩, pl, ro, va⟩ := q
    dsimp only at hq ⊢
    refine pk_le (2 ^ N) m (fun w => absurd w (by omega)) (fun _ => ?_)
    rcases hq with ⟨h1, h2⟩ | h
    · subst h1
      refine br_t rfl ?_
      have nxt : ∀ P : Prop, (P → yd_N N p (nd_B al N b) (nd_X al N) S m) → ((∀ k, k < N → fl k = true → m.testBit k = true) → ¬ p + ct_c fl N < 2 * ct_c m.testBit N → P) → ∀ m', m' < m + 1 → (∀ k, k < N → fl k = true → m'.testBit k = true) → ¬ p + ct_c fl N < 2 * ct_c m'.testBit N → yd_N N p (nd_B al N b) (nd_X al N) S m' := by
        intro P hP hQ m' hm' a c
        by_cases e : m' = m
        · subst e; exact hP (hQ a c)
        · exact h2 m' (by omega) a c
      have an : (nI m &&& nI (fm_m fl N) = nI (fm_m fl N)) ↔ ∀ k, k < N → fl k = true → m.testBit k = true := by
        rw [nx_and, ← fm_and]
        have : m &&& fm_m fl N ≤ fm_m fl N := Nat.and_le_right
        exact nI_eq (by omega) (by omega)
      refine br_c (fun a => ?_) (fun a => nm_r (nI_1 m) (K ((3, rl, ec, er), (dl, ch, tc), (pl, ro, va)) (Or.inl ⟨rfl, nxt False (fun z => z.elim) (fun z _ => a (an.mpr z))⟩)))
      have hsub := an.mp a
      have cl := ct_le fl N
      refine yd_124 hN (by omega) hp (by omega) (fun pls i hi g1 g2 => ?_)
      refine yd_175 E (rc := rc) (fl := fl) (S := S) (b := b) hN hp hw hf hwt hsy hsub hi g1 g2 (fun z => ?_) (fun z ro' => ?_) (fun ro' va' st' rl' ec' er' dl' ch' tc' z => ?_)
      · exact K ((3, rl, ec, er), (dl, ch, tc), (pls, ro, va)) (Or.inl ⟨rfl, nxt False (fun z => z.elim) (fun _ c => c z)⟩)
      · exact K ((3, rl, ec, er), (dl, ch, tc), (pls, ro', va)) (Or.inl ⟨rfl, nxt True (fun _ => z) (fun _ _ => trivial)⟩)
      · exact K ((st', rl', ec', er'), (dl', ch', tc'), (pls, ro', va')) (Or.inr z)
    · refine br_f ?_ (hok _ _ _ _ _ _ _ _ _ _ h)
      obtain ⟨e, _, h, _⟩ := h
      rw [h]
      exact stn e
theorem yd_dec {F : Type} [Lean.Grind.Field F] [Lean.Grind.IsCharP F 2] {em : F → Int32} {al : F} (E : em_P em al) {post : Int32 → SY → Prop} {p b N : Nat} {rc : Nat → F} {fl : Nat → Bool} (hp : p ≤ 8) (hb : b ≤ 254) (h0N : 0 < N) (hN : N ≤ 18) (hw : ∀ i, i < N → a_received i = em (rc i)) (hf : ∀ i, i < N → a_flags i = bI_b (fl i))
    (h4 : p < ct_c fl N → post 4 (nI p, f_k, nI b, f_messageLength, f_sentLength, nI N, 4, f_resultLength, f_errorCount, f_erasureCount, a_message, a_sent, a_received, a_flags, a_delivered, a_changes, a_touched, a_word, a_weights, a_syndromes, a_places, a_rows, a_values, a_exponents))
    (hok : ct_c fl N ≤ p → ∀ wo wt sy pl ro va st rl ec er dl ch tc, yd_G em N p (nd_B al N b) (nd_X al N) (sy_s N (nd_B al N b) (nd_X al N) rc) fl rc st rl ec er dl ch tc → post st (nI p, f_k, nI b, f_messageLength, f_sentLength, nI N, st, rl, ec, er, a_message, a_sent, a_received, a_flags, dl, ch, tc, wo, wt, sy, pl, ro, va, a_exponents))
    (hno : ct_c fl N ≤ p → (¬ ∃ e, gd_e N p (nd_B al N b) (nd_X al N) (sy_s N (nd_B al N b) (nd_X al N) rc) fl e) → ∀ wo wt sy pl ro va rl ec er dl ch tc, post 3 (nI p, f_k, nI b, f_messageLength, f_sentLength, nI N, 3, rl, ec, er, a_message, a_sent, a_received, a_flags, dl, ch, tc, wo, wt, sy, pl, ro, va, a_exponents)) : wpY_decode post (nI p, f_k, nI b, f_messageLength, f_sentLength, nI N, f_state, f_resultLength, f_errorCount, f_erasureCount, a_message, a_sent, a_received, a_flags, a_delivered, a_changes, a_touched, a_word, a_weights, a_syndromes, a_places, a_rows, a_values, a_exponents) := by
  unfold wpY_decode
  refine br_f (nI_ne0 h0N (by omega)) ?_
  refine yf_cnt hN hf ?_
  have cle := ct_le fl N
  refine pk_le (ct_c fl N) p (fun hs => ?_) (fun hs => h4 hs)
  refine pk_loop (σ := Int32 × (Nat → Int32)) (fun n i q => wY_decode_41 post (nI (ct_c fl N)) (nI p) f_k (nI b) f_messageLength f_sentLength (nI N) 3 f_resultLength f_errorCount f_erasureCount n q.1 (nI i) a_message a_sent a_received a_flags a_delivered a_changes a_touched (q.2) a_weights a_syndromes a_places a_rows a_values a_exponents) (fun i q => q.1 = nI (fm_m fl i) ∧ ∀ k, k < i → q.2 k = em (rc k)) N 0 (0, a_word) (by omega) ⟨rfl, fun k hk => absurd hk (by omega)⟩ ?_ ?_
  · intro n q hq
    obtain ⟨x, wo⟩ := q
    obtain ⟨g1, g2⟩ := hq
    dsimp only at g1 g2 ⊢
    subst g1
    refine pk_le N N (fun _ => ?_) (fun w => absurd w (by omega))
    refine yp_prep E hN hp hb g2 (fun wt sy hwt hsy => ?_)
    have sh : (1 : Int32) <<< (nI N &&& 31) = nI (2 ^ N) := by
      have p18 : 2 ^ N ≤ 2 ^ 18 := Nat.pow_le_pow_right (by decide) hN
      have a : nI 1 <<< (nI N &&& 31) = nI (1 <<< N) := yb_sl (by omega) (by omega)
      rw [Nat.shiftLeft_eq, Nat.one_mul] at a
      exact a
    refine nm_r sh ?_
    exact yd_96 E (b := b) hN hp hw hf hwt hsy (fun pl ro va st rl ec er dl ch tc z => hok hs _ _ _ _ _ _ _ _ _ _ _ _ _ z) (fun z pl ro va rl ec er dl ch tc => hno hs z _ _ _ _ _ _ _ _ _ _ _ _)
  · intro n i q hi hq K
    obtain ⟨x, wo⟩ := q
    obtain ⟨g1, g2⟩ := hq
    dsimp only at g1 g2 K ⊢
    subst g1
    have cl : (nI i).toNatClampNeg = i := nI_clamp (by omega)
    refine pk_le N i (fun w => absurd w (by omega)) (fun _ => ⟨pk_in i 18 (by omega), pk_in i 18 (by omega), nm_r (e' := upd wo i (em (rc i))) (by rw [cl, hw i hi]) ⟨pk_in i 18 (by omega), nm_r (e' := nI (fm_m fl (i + 1))) (by rw [cl, hf i hi, bI_sl _ (by omega), ex_or]; rfl) (nm_r (nI_1 i) (K (nI (fm_m fl (i + 1)), upd wo i (em (rc i))) ⟨rfl, ?_⟩))⟩⟩)
    intro k hk
    show upd wo i (em (rc i)) k = _
    by_cases w : k = i
    · rw [w, pk_us]
    · rw [pk_un w]; exact g2 k (by omega)
end
end
section
/-! encoding -/
/-- the check cells after i message cells -/
def lf_c {F : Type} [Lean.Grind.Field F] (g w : Nat → F) (p : Nat) : Nat → (Nat → F)
  | 0 => fun _ => 0
  | i + 1 => fun t => if t + 1 < p then lf_c g w p i (t + 1) + (w i + lf_c g w p i 0) * g (p - 1 - t) else (w i + lf_c g w p i 0) * g 0
theorem lf_lt {F : Type} [Lean.Grind.Field F] {g w : Nat → F} {p i t : Nat} (h : t + 1 < p) : lf_c g w p (i + 1) t = lf_c g w p i (t + 1) + (w i + lf_c g w p i 0) * g (p - 1 - t) := if_pos h
theorem lf_ge {F : Type} [Lean.Grind.Field F] {g w : Nat → F} {p i t : Nat} (h : ¬ t + 1 < p) : lf_c g w p (i + 1) t = (w i + lf_c g w p i 0) * g 0 := if_neg h
theorem lf_st {F : Type} [Lean.Grind.Field F] [Lean.Grind.IsCharP F 2] {g w : Nat → F} {q : Nat} {x : F} (h1 : g (q + 1) = 1) (hr : ev_l g (q + 2) x = 0) (i : Nat) : hv_h (lf_c g w (q + 1) (i + 1)) x (q + 1) = x * hv_h (lf_c g w (q + 1) i) x (q + 1) + w i * x ^ (q + 1) := by
  rw [hv_sum, hv_sum]
  generalize hc : lf_c g w (q + 1) i = c
  generalize hf : w i + c 0 = f
  have a : sm_s (fun t => lf_c g w (q + 1) (i + 1) t * x ^ (q + 1 - 1 - t)) (q + 1) = sm_s (fun t => c (t + 1) * x ^ (q - t)) q + f * sm_s (fun k => g k * x ^ k) (q + 1) := by
    rw [sm_n, lf_ge (by omega), hc, hf, show q + 1 - 1 - q = 0 by omega, pw_0]
    have r := sm_rev (fun k => g k * x ^ k) (q + 1)
    rw [sm_n, show q + 1 - 1 - q = 0 by omega, pw_0] at r
    rw [← r]
    have b : sm_s (fun t => lf_c g w (q + 1) (i + 1) t * x ^ (q + 1 - 1 - t)) q = sm_s (fun t => c (t + 1) * x ^ (q - t)) q + f * sm_s (fun i => g (q + 1 - 1 - i) * x ^ (q + 1 - 1 - i)) q := by
      rw [← sm_mul, ← sm_add]
      apply sm_congr
      intro t ht
      rw [lf_lt (by omega), hc, hf, show q + 1 - 1 - t = q - t by omega]; grind
    rw [b]; grind
  have e : sm_s (fun k => g k * x ^ k) (q + 1) = x ^ (q + 1) := by
    have r : ev_l g (q + 2) x = sm_s (fun k => g k * x ^ k) (q + 1) + g (q + 1) * x ^ (q + 1) := rfl
    rw [hr, h1] at r
    apply c2_e
    rw [r]; grind
  have d : x * sm_s (fun t => c t * x ^ (q + 1 - 1 - t)) (q + 1) = c 0 * x ^ (q + 1) + sm_s (fun t => c (t + 1) * x ^ (q - t)) q := by
    rw [sm_first, show q + 1 - 1 - 0 = q by omega]
    have : x * sm_s (fun t => c (t + 1) * x ^ (q + 1 - 1 - (t + 1))) q = sm_s (fun t => c (t + 1) * x ^ (q - t)) q := by
      rw [← sm_mul]
      apply sm_congr
      intro t ht
      rw [show q - t = (q + 1 - 1 - (t + 1)) + 1 by omega, pw_s]; grind
    rw [← this, pw_s]; grind
  rw [a, e, d, ← hf]; grind
theorem hv_z {F : Type} [Lean.Grind.Field F] (x : F) : ∀ n, hv_h (fun _ => (0 : F)) x n = 0 := by
  intro n
  induction n with
  | zero => rfl
  | succ n ih => show hv_h (fun _ => (0 : F)) x n * x + 0 = 0; rw [ih]; grind
theorem lf_ok {F : Type} [Lean.Grind.Field F] [Lean.Grind.IsCharP F 2] {g w : Nat → F} {p : Nat} (hp : 0 < p) {x : F} (h1 : g p = 1) (hr : ev_l g (p + 1) x = 0) : ∀ i, hv_h (lf_c g w p i) x p = hv_h w x i * x ^ p := by
  obtain ⟨q, rfl⟩ : ∃ q, p = q + 1 := ⟨p - 1, by omega⟩
  intro i
  induction i with
  | zero => show hv_h (fun _ => (0 : F)) x (q + 1) = 0 * x ^ (q + 1); rw [hv_z]; grind
  | succ i ih =>
    rw [lf_st h1 hr, ih]
    show _ = (hv_h w x i * x + w i) * x ^ (q + 1)
    grind
theorem hv_app {F : Type} [Lean.Grind.Field F] (w : Nat → F) (x : F) (m : Nat) : ∀ k, hv_h w x (m + k) = hv_h w x m * x ^ k + hv_h (fun t => w (m + t)) x k := by
  intro k
  induction k with
  | zero => rw [Nat.add_zero, pw_0]; show _ = hv_h w x m * 1 + 0; grind
  | succ k ih =>
    show hv_h w x (m + k) * x + w (m + k) = hv_h w x m * x ^ (k + 1) + (hv_h (fun t => w (m + t)) x k * x + w (m + k))
    rw [ih, pw_s]; grind
/-- the word: message, then check cells -/
def cw_w {F : Type} [Lean.Grind.Field F] (w c : Nat → F) (m : Nat) : Nat → F := fun i => if i < m then w i else c (i - m)
theorem cw_lt {F : Type} [Lean.Grind.Field F] {w c : Nat → F} {m i : Nat} (h : i < m) : cw_w w c m i = w i := if_pos h
theorem cw_ge {F : Type} [Lean.Grind.Field F] {w c : Nat → F} {m i : Nat} (h : ¬ i < m) : cw_w w c m i = c (i - m) := if_neg h
theorem cw_ok {F : Type} [Lean.Grind.Field F] [Lean.Grind.IsCharP F 2] {g w : Nat → F} {p : Nat} (hp : 0 < p) {x : F} (h1 : g p = 1) (hr : ev_l g (p + 1) x = 0) (m : Nat) : hv_h (cw_w w (lf_c g w p m) m) x (m + p) = 0 := by
  rw [hv_app, hv_congr (v := w) x (fun i hi => cw_lt hi)]
  have : hv_h (fun t => cw_w w (lf_c g w p m) m (m + t)) x p = hv_h (lf_c g w p m) x p := hv_congr x (fun t _ => by rw [cw_ge (by omega), show m + t - m = t by omega])
  rw [this, lf_ok hp h1 hr]
  exact c2_s _
theorem ct_tail {P : Nat → Bool} {m : Nat} (h : ∀ i, i < m → P i = false) : ∀ k, ct_c P (m + k) ≤ k := by
  have z : ct_c P m = 0 := by
    have : ∀ n, n ≤ m → ct_c P n = 0 := by
      intro n
      induction n with
      | zero => intro _; rfl
      | succ n ih => intro hn; rw [ct_nf (h n (by omega)), ih (by omega)]
    exact this m (Nat.le_refl _)
  intro k
  induction k with
  | zero => rw [Nat.add_zero, z]; omega
  | succ k ih =>
    show ct_c P (m + k + 1) ≤ k + 1
    rw [ct_n]
    split <;> omega
/-- the check cells are unique -/
theorem cw_u {F : Type} [Lean.Grind.Field F] [Lean.Grind.IsCharP F 2] {B X w c v : Nat → F} {m p : Nat} (hX : ∀ i j, i < m + p → j < m + p → X i = X j → i = j) (hB : ∀ i, i < m + p → B i ≠ 0) (h1 : ∀ j, j < p → sy_s (m + p) B X (cw_w w c m) j = 0) (h2 : ∀ j, j < p → sy_s (m + p) B X (cw_w w v m) j = 0) : ∀ t, t < p → c t = v t := by
  have key := vd_sp hX p (fun i => (cw_w w c m i + cw_w w v m i) * B i) (by
    apply ct_tail
    intro i hi
    apply nz_f.mpr
    rw [cw_lt hi, cw_lt hi]; grind) (by
    intro j hj
    have a := h1 j hj
    have b := h2 j hj
    unfold sy_s at a b
    have : sm_s (fun i => (cw_w w c m i + cw_w w v m i) * B i * X i ^ j) (m + p) = sm_s (fun i => cw_w w c m i * B i * X i ^ j) (m + p) + sm_s (fun i => cw_w w v m i * B i * X i ^ j) (m + p) := by
      rw [← sm_add]
      exact sm_congr (fun i _ => by grind)
    rw [this, a, b]; grind)
  intro t ht
  have a := fz_0 (key (m + t) (by omega)) (hB (m + t) (by omega))
  rw [cw_ge (by omega), cw_ge (by omega), show m + t - m = t by omega] at a
  exact c2_e a
theorem pm_1 {p : Nat} (h : 1 ≤ p) : nI p - 1 = nI (p - 1) := pk_sub (b := 1) h
section
variable {f_p f_k f_b f_messageLength f_sentLength f_receivedLength f_resultStatus f_deliveredLength f_errorCount f_erasureCount : Int32} {a_powers a_logs a_generator a_message a_sent a_received a_flags a_delivered a_changes a_locator a_syndromes a_modified a_evaluator a_register a_previous a_saved a_located : Nat → Int32}
theorem xn_88 {F : Type} [Lean.Grind.Field F] [Lean.Grind.IsCharP F 2] {em : F → Int32} {al : F} (E : em_P em al) {post : Int32 → SX → Prop} (T : tb_T em al a_powers a_logs) {J : Int32 → (Nat → Int32) → (Nat → Int32) → (Nat → Int32) → (Nat → Int32) → (Nat → Int32) → (Nat → Int32) → (Nat → Int32) → (Nat → Int32) → (Nat → Int32) → (Nat → Int32) → (Nat → Int32) → (Nat → Int32) → (Nat → Int32) → (Nat → Int32) → (Nat → Int32) → (Nat → Int32) → (Nat → Int32) → Prop} {g w : Nat → F} {m p i : Nat} (h0p : 0 < p) (hp : p ≤ 8) (hm : m ≤ 10) (hg : ∀ t, t < 9 → a_generator t = em (g t)) (h1 : ∀ k, k < m → a_sent k = em (w k)) (h2 : ∀ t, t < p → a_sent (m + t) = em (lf_c g w p i t))
    (hJ : ∀ s, (∀ k, k < m → s k = em (w k)) → (∀ t, t < p → s (m + t) = em (lf_c g w p (i + 1) t)) → J (nI (i + 1)) a_powers a_logs a_generator a_message s a_received a_flags a_delivered a_changes a_locator a_syndromes a_modified a_evaluator a_register a_previous a_saved a_located) : ∃ n, wX_encode_88 post J (nI m) (nI i) (em (w i + lf_c g w p i 0)) (nI p) f_k f_b f_messageLength f_sentLength f_receivedLength f_resultStatus f_deliveredLength f_errorCount f_erasureCount n 0 a_powers a_logs a_generator a_message a_sent a_received a_flags a_delivered a_changes a_locator a_syndromes a_modified a_evaluator a_register a_previous a_saved a_located := by
  refine pk_loop (fun n t s => wX_encode_88 post J (nI m) (nI i) (em (w i + lf_c g w p i 0)) (nI p) f_k f_b f_messageLength f_sentLength f_receivedLength f_resultStatus f_deliveredLength f_errorCount f_erasureCount n (nI t) a_powers a_logs a_generator a_message s a_received a_flags a_delivered a_changes a_locator a_syndromes a_modified a_evaluator a_register a_previous a_saved a_located) (fun t s => (∀ k, k < m → s k = em (w k)) ∧ ∀ k, k < p → s (m + k) = em (if k < t then lf_c g w p (i + 1) k else lf_c g w p i k)) (p - 1) 0 a_sent (by omega) ⟨h1, fun k hk => by rw [if_neg (by omega)]; exact h2 k hk⟩ ?_ ?_
  · intro n s hs
    refine pk_le (p - 1) (p - 1) (fun _ => ?_) (fun q => absurd q (by omega)) (hx := pm_1 h0p)
    have ix : nI m + nI p - 1 = nI (m + p - 1) := by rw [nI_add, pm_1 (by omega)]
    refine xp_product E T _ (g 0) rfl (hg 0 (by omega)) ⟨pk_in (m + p - 1) 18 (by omega) ix, nm_r (e' := upd s (m + p - 1) (em ((w i + lf_c g w p i 0) * g 0))) (by rw [ix, nI_clamp (by omega)]) (nm_r (nI_1 i) (hJ _ ?_ ?_))⟩
    · intro k hk
      rw [pk_un (by omega)]; exact hs.1 k hk
    · intro t ht
      by_cases e : t = p - 1
      · rw [e, show m + (p - 1) = m + p - 1 by omega, pk_us, lf_ge (by omega)]
      · rw [pk_un (by omega), hs.2 t ht, if_pos (by omega)]
  · intro n t s ht hs K
    have i1 : nI m + nI t + 1 = nI (m + t + 1) := by rw [nI_add, nI_1]
    have i2 : nI p - 1 - nI t = nI (p - 1 - t) := by rw [pm_1 h0p, pk_sub (by omega)]
    have i3 : nI m + nI t = nI (m + t) := nI_add m t
    refine pk_le (p - 1) t (fun q => absurd q (by omega)) (fun _ => ?_) (hx := pm_1 h0p)
    refine ⟨pk_in (m + t + 1) 18 (by omega) i1, pk_in (p - 1 - t) 9 (by omega) i2, ?_⟩
    refine xp_product E T _ (g (p - 1 - t)) rfl (by rw [i2, nI_clamp (by omega)]; exact hg _ (by omega)) ⟨pk_in (m + t) 18 (by omega) i3, nm_r (e' := upd s (m + t) (em (lf_c g w p (i + 1) t))) ?_ (nm_r (nI_1 t) (K _ ⟨?_, ?_⟩))⟩
    · rw [i1, i3, nI_clamp (by omega), nI_clamp (by omega), show m + t + 1 = m + (t + 1) by omega, hs.2 (t + 1) (by omega), if_neg (by omega), ← em_add E, lf_lt (by omega)]
    · intro k hk
      rw [pk_un (by omega)]; exact hs.1 k hk
    · intro k hk
      by_cases e : k = t
      · rw [e, pk_us, if_pos (by omega)]
      · rw [pk_un (by omega), hs.2 k hk]
        by_cases q : k < t
        · rw [if_pos q, if_pos (by omega)]
        · rw [if_neg q, if_neg (by omega)]
theorem xn_enc {F : Type} [Lean.Grind.Field F] [Lean.Grind.IsCharP F 2] {em : F → Int32} {al : F} (E : em_P em al) {post : Int32 → SX → Prop} (T : tb_T em al a_powers a_logs) {g w : Nat → F} {m p : Nat} (h0m : 0 < m) (h0p : 0 < p) (hp : p ≤ 8) (hm : m ≤ 10) (hg : ∀ t, t < 9 → a_generator t = em (g t)) (hw : ∀ k, k < m → a_message k = em (w k))
    (h : ∀ s, (∀ i, i < m + p → s i = em (cw_w w (lf_c g w p m) m i)) → post (nI (m + p)) (nI p, f_k, f_b, nI m, nI (m + p), f_receivedLength, f_resultStatus, f_deliveredLength, f_errorCount, f_erasureCount, a_powers, a_logs, a_generator, a_message, s, a_received, a_flags, a_delivered, a_changes, a_locator, a_syndromes, a_modified, a_evaluator, a_register, a_previous, a_saved, a_located)) : wpX_encode post (nI p, f_k, f_b, nI m, f_sentLength, f_receivedLength, f_resultStatus, f_deliveredLength, f_errorCount, f_erasureCount, a_powers, a_logs, a_generator, a_message, a_sent, a_received, a_flags, a_delivered, a_changes, a_locator, a_syndromes, a_modified, a_evaluator, a_register, a_previous, a_saved, a_located) := by
  unfold wpX_encode
  refine br_f (nI_ne0 h0m (by omega)) ?_
  refine pk_loop (fun n i s => wX_encode_16 post (nI m) (nI p) f_k f_b (nI m) f_sentLength f_receivedLength f_resultStatus f_deliveredLength f_errorCount f_erasureCount n (nI i) a_powers a_logs a_generator a_message s a_received a_flags a_delivered a_changes a_locator a_syndromes a_modified a_evaluator a_register a_previous a_saved a_located) (fun i s => ∀ k, k < i → s k = em (w k)) m 0 a_sent (by omega) (fun k hk => absurd hk (by omega)) ?_ ?_
  · intro n s hs
    refine pk_le m m (fun _ => ?_) (fun q => absurd q (by omega))
    refine pk_loop (fun n i s => wX_encode_41 post (nI m) (nI p) f_k f_b (nI m) f_sentLength f_receivedLength f_resultStatus f_deliveredLength f_errorCount f_erasureCount n (nI i) a_powers a_logs a_generator a_message s a_received a_flags a_delivered a_changes a_locator a_syndromes a_modified a_evaluator a_register a_previous a_saved a_located) (fun i s => (∀ k, k < m → s k = em (w k)) ∧ ∀ t, t < i → s (m + t) = 0) p 0 s (by omega) ⟨hs, fun k hk => absurd hk (by omega)⟩ ?_ ?_
    · intro n s hs
      refine pk_le p p (fun _ => ?_) (fun q => absurd q (by omega))
      refine pk_loop (fun n i s => wX_encode_66 post (nI m) (nI p) f_k f_b (nI m) f_sentLength f_receivedLength f_resultStatus f_deliveredLength f_errorCount f_erasureCount n (nI i) a_powers a_logs a_generator a_message s a_received a_flags a_delivered a_changes a_locator a_syndromes a_modified a_evaluator a_register a_previous a_saved a_located) (fun i s => (∀ k, k < m → s k = em (w k)) ∧ ∀ t, t < p → s (m + t) = em (lf_c g w p i t)) m 0 s (by omega) ⟨hs.1, fun t ht => by rw [hs.2 t ht]; exact (em_0 E).symm⟩ ?_ ?_
      · intro n s hs
        refine pk_le m m (fun _ => nm_r (nI_add m p) (h s ?_)) (fun q => absurd q (by omega))
        intro i hi
        by_cases q : i < m
        · rw [cw_lt q]; exact hs.1 i q
        · have := hs.2 (i - m) (by omega)
          rw [show m + (i - m) = i by omega] at this
          rw [cw_ge q, this]
      · intro n i s hi hs K
        refine pk_le m i (fun q => absurd q (by omega)) (fun _ => ⟨pk_in i 10 (by omega), pk_in m 18 (by omega), nm_r (e' := em (w i + lf_c g w p i 0)) ?_ ?_⟩)
        · have := hs.2 0 h0p
          rw [Nat.add_zero] at this
          rw [nI_clamp (by omega), nI_clamp (by omega), hw i hi, this, em_add E]
        · exact xn_88 E T h0p hp hm hg hs.1 hs.2 (fun s' a b => K s' ⟨a, b⟩)
    · intro n i s hi hs K
      refine pk_le p i (fun q => absurd q (by omega)) (fun _ => ⟨pk_in (m + i) 18 (by omega) (nI_add m i), nm_r (e' := upd s (m + i) 0) (by rw [nI_add, nI_clamp (by omega)]) (nm_r (nI_1 i) (K _ ⟨?_, ?_⟩))⟩)
      · intro k hk
        rw [pk_un (by omega)]; exact hs.1 k hk
      · intro t ht
        by_cases e : t = i
        · rw [e, pk_us]
        · rw [pk_un (by omega)]; exact hs.2 t (by omega)
  · intro n i s hi hs K
    have cl : (nI i).toNatClampNeg = i := nI_clamp (by omega)
    refine pk_le m i (fun q => absurd q (by omega)) (fun _ => ⟨pk_in i 10 (by omega), pk_in i 18 (by omega), nm_r (e' := upd s i (em (w i))) (by rw [cl, hw i hi]) (nm_r (nI_1 i) (K _ ?_))⟩)
    intro k hk
    by_cases e : k = i
    · rw [e, pk_us]
    · rw [pk_un e]; exact hs k (by omega)
end
section
variable {f_p f_k f_b f_messageLength f_sentLength f_receivedLength f_state f_resultLength f_errorCount f_erasureCount : Int32} {a_message a_sent a_received a_flags a_delivered a_changes a_touched a_word a_weights a_syndromes a_places a_rows a_values a_exponents : Nat → Int32}
theorem yn_enc {F : Type} [Lean.Grind.Field F] [Lean.Grind.IsCharP F 2] {em : F → Int32} {al : F} (E : em_P em al) {post : Int32 → SY → Prop} {w c : Nat → F} {m p b : Nat} (h0m : 0 < m) (hp : p ≤ 8) (hm : m ≤ 10) (hb : b ≤ 254) (hw : ∀ k, k < m → a_message k = em (w k)) (hc : ∀ j, j < p → sy_s (m + p) (nd_B al (m + p) b) (nd_X al (m + p)) (cw_w w c m) j = 0)
    (h : ∀ s wo wt sy pl ro va, (∀ i, i < m + p → s i = em (cw_w w c m i)) → post (nI (m + p)) (nI p, f_k, nI b, nI m, nI (m + p), f_receivedLength, f_state, f_resultLength, f_errorCount, f_erasureCount, a_message, s, a_received, a_flags, a_delivered, a_changes, a_touched, wo, wt, sy, pl, ro, va, a_exponents)) : wpY_encode post (nI p, f_k, nI b, nI m, f_sentLength, f_receivedLength, f_state, f_resultLength, f_errorCount, f_erasureCount, a_message, a_sent, a_received, a_flags, a_delivered, a_changes, a_touched, a_word, a_weights, a_syndromes, a_places, a_rows, a_values, a_exponents) := by
  have hX := nd_inj E (show m + p ≤ 18 by omega)
  have hB : ∀ i, i < m + p → nd_B al (m + p) b i ≠ 0 := fun i _ => nd_B0 E _ _ _
  have spl : ∀ (v : Nat → F) j, sy_s (m + p) (nd_B al (m + p) b) (nd_X al (m + p)) (cw_w w v m) j = sy_s (m + p) (nd_B al (m + p) b) (nd_X al (m + p)) (cw_w w (fun _ => 0) m) j + sm_s (fun u => nd_B al (m + p) b (m + u) * nd_X al (m + p) (m + u) ^ j * v u) p := by
    intro v j
    unfold sy_s
    rw [sm_split, sm_split]
    have a : sm_s (fun i => cw_w w v m i * nd_B al (m + p) b i * nd_X al (m + p) i ^ j) m = sm_s (fun i => cw_w w (fun _ => 0) m i * nd_B al (m + p) b i * nd_X al (m + p) i ^ j) m := sm_congr (fun i hi => by rw [cw_lt hi, cw_lt hi])
    have d : sm_s (fun i => cw_w w (fun _ => 0) m (m + i) * nd_B al (m + p) b (m + i) * nd_X al (m + p) (m + i) ^ j) p = 0 := sm_z (fun i hi => by rw [cw_ge (by omega)]; grind)
    have e : sm_s (fun i => cw_w w v m (m + i) * nd_B al (m + p) b (m + i) * nd_X al (m + p) (m + i) ^ j) p = sm_s (fun u => nd_B al (m + p) b (m + u) * nd_X al (m + p) (m + u) ^ j * v u) p := sm_congr (fun i hi => by rw [cw_ge (by omega), show m + i - m = i by omega]; grind)
    rw [a, d, e]; grind
  unfold wpY_encode
  refine br_f (nI_ne0 h0m (by omega)) ?_
  refine pk_loop (fun n i s => wY_encode_16 post (nI m) (nI p) f_k (nI b) (nI m) f_sentLength f_receivedLength f_state f_resultLength f_errorCount f_erasureCount n (nI i) a_message a_sent a_received a_flags a_delivered a_changes a_touched s a_weights a_syndromes a_places a_rows a_values a_exponents) (fun i s => ∀ k, k < i → s k = em (cw_w w (fun _ => 0) m k)) (m + p) 0 a_word (by omega) (fun k hk => absurd hk (by omega)) ?_ ?_
  · intro n wo hwo
    refine pk_le (m + p) (m + p) (fun _ => ?_) (fun q => absurd q (by omega)) (hx := nI_add m p)
    rw [nI_add]
    refine yp_prep E (show m + p ≤ 18 by omega) hp hb hwo (fun wt sy hwt hsy => ?_)
    refine pk_loop (fun n i s => wY_encode_65 post (nI m) (nI p) f_k (nI b) (nI m) f_sentLength f_receivedLength f_state f_resultLength f_errorCount f_erasureCount n (nI i) a_message a_sent a_received a_flags a_delivered a_changes a_touched wo wt sy s a_rows a_values a_exponents) (fun i s => ∀ k, k < i → s k = nI (m + k)) p 0 a_places (by omega) (fun k hk => absurd hk (by omega)) ?_ ?_
    · intro n pl hpl
      refine pk_le p p (fun _ => ?_) (fun q => absurd q (by omega))
      refine ys_solve E (R := fun j u => if u < p then nd_B al (m + p) b (m + u) * nd_X al (m + p) (m + u) ^ j else sy_s (m + p) (nd_B al (m + p) b) (nd_X al (m + p)) (cw_w w (fun _ => 0) m) j) (pl := fun u => m + u) (n := p) hp (Nat.le_refl _) (fun u hu => ⟨hpl u hu, by omega⟩) (fun j hj u hu => ?_) (fun j hj => ?_) ?_ (fun ro va v hv hs => ?_) (fun ro hs => ?_)
      · rw [if_pos hu]
        exact hwt j hj (m + u) (by omega)
      · rw [if_neg (by omega)]
        exact hsy j hj
      · refine so_NS (B := fun u => nd_B al (m + p) b (m + u)) (X := fun u => nd_X al (m + p) (m + u)) ?_ (fun u hu => hB (m + u) (by omega)) (fun j c _ hc => if_pos hc)
        intro u u' hu hu' q
        have := hX (m + u) (m + u') (by omega) (by omega) q
        omega
      · have uq : ∀ t, t < p → c t = v t := by
          refine cw_u hX hB hc ?_
          intro j hj
          have a := hs j hj
          rw [if_neg (by omega)] at a
          have d : sm_s (fun u => (if u < p then nd_B al (m + p) b (m + u) * nd_X al (m + p) (m + u) ^ j else sy_s (m + p) (nd_B al (m + p) b) (nd_X al (m + p)) (cw_w w (fun _ => 0) m) j) * v u) p = sm_s (fun u => nd_B al (m + p) b (m + u) * nd_X al (m + p) (m + u) ^ j * v u) p := sm_congr (fun u hu => by rw [if_pos hu])
          rw [d] at a
          rw [spl v j, a]
          exact c2_s _
        refine pk_loop (fun n i s => wY_encode_99 post (nI m) (nI p) f_k (nI b) (nI m) f_sentLength f_receivedLength f_state f_resultLength f_errorCount f_erasureCount n (nI i) a_message s a_received a_flags a_delivered a_changes a_touched wo wt sy pl ro va a_exponents) (fun i s => ∀ k, k < i → s k = em (cw_w w c m k)) (m + p) 0 a_sent (by omega) (fun k hk => absurd hk (by omega)) ?_ ?_
        · intro n s hs
          exact pk_le (m + p) (m + p) (fun _ => nm_r (nI_add m p) (h _ _ _ _ _ _ _ hs)) (fun q => absurd q (by omega)) (hx := nI_add m p)
        · intro n i s hi hs K
          have cl : (nI i).toNatClampNeg = i := nI_clamp (by omega)
          have fin : ∀ k, k < i + 1 → upd s i (em (cw_w w c m i)) k = em (cw_w w c m k) := by
            intro k hk
            by_cases e : k = i
            · rw [e, pk_us]
            · rw [pk_un e]; exact hs k (by omega)
          refine pk_le (m + p) i (fun q => absurd q (by omega)) (fun _ => pk_le m i (fun q => ?_) (fun q => ?_)) (hx := nI_add m p)
          · have i1 : nI i - nI m = nI (i - m) := pk_sub q
            refine ⟨pk_in (i - m) 8 (by omega) i1, pk_in i 18 (by omega), nm_r (e' := upd s i (em (cw_w w c m i))) (by rw [i1, cl, nI_clamp (by omega), hv (i - m) (by omega), cw_ge (by omega), uq (i - m) (by omega)]) (nm_r (nI_1 i) (K _ fin))⟩
          · refine ⟨pk_in i 10 (by omega), pk_in i 18 (by omega), nm_r (e' := upd s i (em (cw_w w c m i))) (by rw [cl, hw i q, cw_lt q]) (nm_r (nI_1 i) (K _ fin))⟩
      · exfalso
        apply hs c
        intro j hj
        have a := hc j hj
        rw [spl c j] at a
        rw [if_neg (by omega)]
        have d : sm_s (fun u => (if u < p then nd_B al (m + p) b (m + u) * nd_X al (m + p) (m + u) ^ j else sy_s (m + p) (nd_B al (m + p) b) (nd_X al (m + p)) (cw_w w (fun _ => 0) m) j) * c u) p = sm_s (fun u => nd_B al (m + p) b (m + u) * nd_X al (m + p) (m + u) ^ j * c u) p := sm_congr (fun u hu => by rw [if_pos hu])
        rw [d]
        exact (c2_e a).symm
    · intro n i s hi hs K
      refine pk_le p i (fun q => absurd q (by omega)) (fun _ => ⟨pk_in i 18 (by omega), nm_r (e' := upd s i (nI (m + i))) (by rw [nI_add, nI_clamp (by omega)]) (nm_r (nI_1 i) (K _ ?_))⟩)
      intro k hk
      by_cases e : k = i
      · rw [e, pk_us]
      · rw [pk_un e]; exact hs k (by omega)
  · intro n i s hi hs K
    have cl : (nI i).toNatClampNeg = i := nI_clamp (by omega)
    have fin : ∀ k, k < i + 1 → upd s i (em (cw_w w (fun _ => 0) m i)) k = em (cw_w w (fun _ => 0) m k) := by
      intro k hk
      by_cases e : k = i
      · rw [e, pk_us]
      · rw [pk_un e]; exact hs k (by omega)
    refine pk_le (m + p) i (fun q => absurd q (by omega)) (fun _ => pk_le m i (fun q => ?_) (fun q => ?_)) (hx := nI_add m p)
    · refine ⟨pk_in i 18 (by omega), nm_r (e' := upd s i (em (cw_w w (fun _ => 0) m i))) (by rw [cl, cw_ge (by omega), em_0 E]) (nm_r (nI_1 i) (K _ fin))⟩
    · refine ⟨pk_in i 10 (by omega), pk_in i 18 (by omega), nm_r (e' := upd s i (em (cw_w w (fun _ => 0) m i))) (by rw [cl, hw i q, cw_lt q]) (nm_r (nI_1 i) (K _ fin))⟩
end
end
section
/-! elementary symmetric sums over masks; the reference's computed cells -/
def xs_x (ex : Nat → Nat) (m : Nat) : Nat → Nat
  | 0 => 0
  | t + 1 => xs_x ex m t + (if m.testBit t = true then ex t else 0)
theorem xs_t {ex : Nat → Nat} {m t : Nat} (h : m.testBit t = true) : xs_x ex m (t + 1) = xs_x ex m t + ex t := by
  show xs_x ex m t + (if m.testBit t = true then ex t else 0) = _
  rw [if_pos h]
theorem xs_f {ex : Nat → Nat} {m t : Nat} (h : m.testBit t = false) : xs_x ex m (t + 1) = xs_x ex m t := by
  show xs_x ex m t + (if m.testBit t = true then ex t else 0) = _
  rw [if_neg (by rw [h]; decide)]; rfl
theorem xs_congr {ex : Nat → Nat} {m m' : Nat} : ∀ {n : Nat}, (∀ t, t < n → m.testBit t = m'.testBit t) → xs_x ex m n = xs_x ex m' n := by
  intro n
  induction n with
  | zero => intro _; rfl
  | succ n ih =>
    intro h
    show xs_x ex m n + (if m.testBit n = true then ex n else 0) = xs_x ex m' n + (if m'.testBit n = true then ex n else 0)
    rw [ih (fun t ht => h t (by omega)), h n (by omega)]
theorem xs_le {ex : Nat → Nat} {m B : Nat} : ∀ {n : Nat}, (∀ t, t < n → ex t ≤ B) → xs_x ex m n ≤ n * B := by
  intro n
  induction n with
  | zero => intro _; exact Nat.zero_le _
  | succ n ih =>
    intro h
    have a := ih (fun t ht => h t (by omega))
    have b := h n (by omega)
    show xs_x ex m n + (if m.testBit n = true then ex n else 0) ≤ (n + 1) * B
    rw [Nat.succ_mul]
    split <;> omega
noncomputable def es_t {F : Type} [Lean.Grind.Field F] (al : F) (ex : Nat → Nat) (n k m : Nat) : F := if ct_c m.testBit n = k then al ^ xs_x ex m n else 0
theorem es_sum {F : Type} [Lean.Grind.Field F] (al : F) (ex : Nat → Nat) : ∀ n k, sm_s (es_t al ex n k) (2 ^ n) = lm_l (fun t => al ^ ex t) (fun _ => true) (on_e : Nat → F) n k := by
  intro n
  induction n with
  | zero =>
    intro k
    show (0 : F) + es_t al ex 0 k 0 = on_e k
    unfold es_t on_e
    by_cases h : k = 0
    · rw [ct_0, if_pos h.symm, if_pos h]; show (0 : F) + al ^ 0 = 1; rw [pw_0]; grind
    · rw [ct_0, if_neg (fun q => h q.symm), if_neg h]; grind
  | succ n ih =>
    intro k
    rw [show 2 ^ (n + 1) = 2 ^ n + 2 ^ n by omega, sm_split, lm_t (M := fun _ => true) rfl]
    have a : sm_s (es_t al ex (n + 1) k) (2 ^ n) = sm_s (es_t al ex n k) (2 ^ n) := by
      apply sm_congr
      intro m hm
      have b : m.testBit n = false := Nat.testBit_lt_two_pow hm
      unfold es_t
      rw [ct_nf b, xs_f b]
    have b : ∀ m, m < 2 ^ n → (2 ^ n + m).testBit n = true := by
      intro m hm
      rw [Nat.testBit_two_pow_add_eq, Nat.testBit_lt_two_pow hm]; rfl
    have c : ∀ m t, t < n → (2 ^ n + m).testBit t = m.testBit t := fun m t ht => Nat.testBit_two_pow_add_gt ht m
    rw [a, ih k]
    cases k with
    | zero =>
      rw [fc_0, sm_z]
      · grind
      · intro m hm
        unfold es_t
        rw [ct_nt (b m hm), if_neg (by omega)]
    | succ k =>
      rw [fc_s, ← ih k, ← sm_mul]
      congr 1
      apply sm_congr
      intro m hm
      unfold es_t
      rw [ct_nt (b m hm), xs_t (b m hm), ct_congr (Q := m.testBit) (c m), xs_congr (m' := m) (c m)]
      by_cases q : ct_c m.testBit n = k
      · rw [if_pos q, if_pos (by omega), pw_a]; grind
      · rw [if_neg q, if_neg (by omega)]; grind
theorem lm_pl {F : Type} [Lean.Grind.Field F] {X Z : Nat → F} {M : Nat → Bool} (q : Nat → F) : ∀ {N : Nat}, (∀ i, i < N → M i = true → Z (ct_c M i) = X i) → lm_l X M q N = lm_l Z (fun _ => true) q (ct_c M N) := by
  intro N
  induction N with
  | zero => intro _; rfl
  | succ N ih =>
    intro h
    have e := ih (fun i hi => h i (by omega))
    cases p : M N with
    | true => rw [lm_t p, ct_nt p, lm_t (M := fun _ => true) rfl, e, h N (by omega) p]
    | false => rw [lm_f p, ct_nf p, e]
section
variable {f_p f_k f_b f_messageLength f_sentLength f_receivedLength f_state f_resultLength f_errorCount f_erasureCount : Int32} {a_message a_sent a_received a_flags a_delivered a_changes a_touched a_word a_weights a_syndromes a_places a_rows a_values a_exponents : Nat → Int32}
theorem yc_sym {F : Type} [Lean.Grind.Field F] [Lean.Grind.IsCharP F 2] {em : F → Int32} {al : F} (E : em_P em al) {post : Int32 → Prop} {ex : Nat → Nat} {n k : Nat} (hn : n ≤ 8) (hk : k < 2 ^ 31) (hx : ∀ t, t < n → a_exponents t = nI (ex t) ∧ ex t ≤ 1000) (h : post (em (lm_l (fun t => al ^ ex t) (fun _ => true) (on_e : Nat → F) n k))) : wpY_symmetric post (f_p, f_k, f_b, f_messageLength, f_sentLength, f_receivedLength, f_state, f_resultLength, f_errorCount, f_erasureCount, a_message, a_sent, a_received, a_flags, a_delivered, a_changes, a_touched, a_word, a_weights, a_syndromes, a_places, a_rows, a_values, a_exponents) (nI n) (nI k) := by
  have p8 : 2 ^ n ≤ 2 ^ 8 := Nat.pow_le_pow_right (by decide) hn
  have sh : (1 : Int32) <<< (nI n &&& 31) = nI (2 ^ n) := by
    have a : nI 1 <<< (nI n &&& 31) = nI (1 <<< n) := yb_sl (by omega) (by omega)
    rw [Nat.shiftLeft_eq, Nat.one_mul] at a
    exact a
  refine nm_r sh ?_
  refine pk_loop (fun f m s => wY_symmetric_10 post (nI n) (nI k) (nI (2 ^ n)) f_p f_k f_b f_messageLength f_sentLength f_receivedLength f_state f_resultLength f_errorCount f_erasureCount a_message a_sent a_received a_flags a_delivered a_changes a_touched a_word a_weights a_syndromes a_places a_rows a_values a_exponents f s (nI m)) (fun m s => s = em (sm_s (es_t al ex n k) m)) (2 ^ n) 0 0 (Nat.zero_le _) (by rw [sm_0, em_0 E]) ?_ ?_
  · intro f s e
    refine pk_le (2 ^ n) (2 ^ n) (fun _ => ?_) (fun w => absurd w (by omega))
    rw [e, es_sum]
    exact h
  · intro f m s hm e K
    subst e
    refine pk_le (2 ^ n) m (fun w => absurd w (by omega)) (fun _ => ?_)
    refine pk_loop (σ := Unit) (fun f' t _ => wY_symmetric_26 post (wY_symmetric_10 post (nI n) (nI k) (nI (2 ^ n)) f_p f_k f_b f_messageLength f_sentLength f_receivedLength f_state f_resultLength f_errorCount f_erasureCount a_message a_sent a_received a_flags a_delivered a_changes a_touched a_word a_weights a_syndromes a_places a_rows a_values a_exponents f) (nI n) (nI k) (em (sm_s (es_t al ex n k) m)) (nI (2 ^ n)) (nI m) f_p f_k f_b f_messageLength f_sentLength f_receivedLength f_state f_resultLength f_errorCount f_erasureCount a_message a_sent a_received a_flags a_delivered a_changes a_touched a_word a_weights a_syndromes a_places a_rows a_values a_exponents f' (nI (ct_c m.testBit t)) (nI (xs_x ex m t)) (nI t)) (fun _ _ => True) n 0 () (by omega) trivial ?_ ?_
    · intro f' _ _
      have cl := ct_le m.testBit n
      have xl := xs_le (m := m) (fun t ht => (hx t ht).2)
      have xl2 : n * 1000 ≤ 8 * 1000 := Nat.mul_le_mul hn (by omega)
      refine pk_le n n (fun _ => pk_eq (ct_c m.testBit n) k (fun q => ?_) (fun q => ?_)) (fun w => absurd w (by omega))
      · refine yp_powN E (xs_x ex m n) (by omega) rfl (nm_e (nm_r (nI_1 m) (K _ ?_)))
        rw [← em_add E, sm_n]
        congr 2
        exact (if_pos q).symm
      · refine nm_r (nI_1 m) (K _ ?_)
        rw [sm_n]
        congr 1
        have : es_t al ex n k m = 0 := if_neg q
        rw [this]; grind
    · intro f' t _ ht _ K2
      have K2 := K2 () trivial
      refine pk_le n t (fun w => absurd w (by omega)) (fun _ => ?_)
      by_cases b : m.testBit t = true
      · rw [ct_nt b, xs_t b] at K2
        refine br_t ((yb_1 (by omega) (by omega)).mpr b) (nm_r (nI_1 _) ⟨pk_in t 8 (by omega), nm_r (e' := nI (xs_x ex m t + ex t)) (by rw [nI_clamp (by omega), (hx t ht).1, nI_add]) (nm_r (nI_1 t) K2)⟩)
      · have bf : m.testBit t = false := by
          cases q : m.testBit t with
          | false => rfl
          | true => exact absurd q b
        rw [ct_nf bf, xs_f bf] at K2
        exact br_f (fun w => b ((yb_1 (by omega) (by omega)).mp w)) (nm_r (nI_1 t) K2)
theorem yc_gen {F : Type} [Lean.Grind.Field F] [Lean.Grind.IsCharP F 2] {em : F → Int32} {al : F} (E : em_P em al) {post : Int32 → SY → Prop} {p b i : Nat} (hp : p ≤ 8) (hb : b ≤ 254) (hi : i ≤ p) (h : ∀ ex, post (em (gn_g (fun j => al ^ (b + j)) p i)) (nI p, f_k, nI b, f_messageLength, f_sentLength, f_receivedLength, f_state, f_resultLength, f_errorCount, f_erasureCount, a_message, a_sent, a_received, a_flags, a_delivered, a_changes, a_touched, a_word, a_weights, a_syndromes, a_places, a_rows, a_values, ex)) : ∃ n, wY_cell_228 post (nI i) (nI p) f_k (nI b) f_messageLength f_sentLength f_receivedLength f_state f_resultLength f_errorCount f_erasureCount n 0 a_message a_sent a_received a_flags a_delivered a_changes a_touched a_word a_weights a_syndromes a_places a_rows a_values a_exponents := by
  refine pk_loop (fun n j s => wY_cell_228 post (nI i) (nI p) f_k (nI b) f_messageLength f_sentLength f_receivedLength f_state f_resultLength f_errorCount f_erasureCount n (nI j) a_message a_sent a_received a_flags a_delivered a_changes a_touched a_word a_weights a_syndromes a_places a_rows a_values s) (fun j s => ∀ k, k < j → s k = nI (b + k)) p 0 a_exponents (by omega) (fun k hk => absurd hk (by omega)) ?_ ?_
  · intro n s hs
    refine pk_le p p (fun _ => ?_) (fun w => absurd w (by omega))
    rw [pk_sub hi]
    refine yc_sym E (ex := fun j => b + j) hp (by omega) (fun t ht => ⟨hs t ht, by omega⟩) ?_
    rw [← gn_sym _ p i hi]
    exact h s
  · intro n j s hj hs K
    refine pk_le p j (fun w => absurd w (by omega)) (fun _ => ⟨pk_in j 8 (by omega), nm_r (e' := upd s j (nI (b + j))) (by rw [nI_add, nI_clamp (by omega)]) (nm_r (nI_1 j) (K _ ?_))⟩)
    intro k hk
    by_cases e : k = j
    · rw [e, pk_us]
    · rw [pk_un e]; exact hs k (by omega)
theorem yc_loc {F : Type} [Lean.Grind.Field F] [Lean.Grind.IsCharP F 2] {em : F → Int32} {al : F} (E : em_P em al) {post : Int32 → SY → Prop} {N i : Nat} {tc : Nat → Bool} (hN : N ≤ 18) (h8 : ct_c tc N ≤ 8) (hi : i < 2 ^ 31) (ht : ∀ i, i < N → a_touched i = bI_b (tc i)) (h : ∀ ex, post (em (lm_l (nd_X al N) tc (on_e : Nat → F) N i)) (f_p, f_k, f_b, f_messageLength, f_sentLength, f_receivedLength, f_state, nI N, f_errorCount, f_erasureCount, a_message, a_sent, a_received, a_flags, a_delivered, a_changes, a_touched, a_word, a_weights, a_syndromes, a_places, a_rows, a_values, ex)) : ∃ n, wY_cell_165 post (nI i) f_p f_k f_b f_messageLength f_sentLength f_receivedLength f_state (nI N) f_errorCount f_erasureCount n 0 0 a_message a_sent a_received a_flags a_delivered a_changes a_touched a_word a_weights a_syndromes a_places a_rows a_values a_exponents := by
  refine pk_loop (σ := Int32 × (Nat → Int32)) (fun n j q => wY_cell_165 post (nI i) f_p f_k f_b f_messageLength f_sentLength f_receivedLength f_state (nI N) f_errorCount f_erasureCount n q.1 (nI j) a_message a_sent a_received a_flags a_delivered a_changes a_touched a_word a_weights a_syndromes a_places a_rows a_values (q.2)) (fun j q => q.1 = nI (ct_c tc j) ∧ ∀ k, k < j → tc k = true → q.2 (ct_c tc k) = nI (N - 1 - k)) N 0 (0, a_exponents) (by omega) ⟨rfl, fun k hk => absurd hk (by omega)⟩ ?_ ?_
  · intro n q hq
    obtain ⟨x, ex⟩ := q
    obtain ⟨g1, g2⟩ := hq
    dsimp only at g1 g2 ⊢
    subst g1
    refine pk_le N N (fun _ => ?_) (fun w => absurd w (by omega))
    refine yc_sym E (ex := fun u => (ex u).toNatClampNeg) h8 hi (fun u hu => ?_) ?_
    · obtain ⟨k, hk, hb, rfl⟩ := ct_sur hu
      rw [g2 k hk hb, nI_clamp (by omega)]
      exact ⟨rfl, by omega⟩
    · rw [← lm_pl (X := nd_X al N) (M := tc)]
      · exact h ex
      · intro k hk hb
        show al ^ (ex (ct_c tc k)).toNatClampNeg = _
        rw [g2 k hk hb, nI_clamp (by omega)]
        rfl
  · intro n j q hj hq K
    obtain ⟨x, ex⟩ := q
    obtain ⟨g1, g2⟩ := hq
    dsimp only at g1 g2 K ⊢
    subst g1
    have cl : (nI j).toNatClampNeg = j := nI_clamp (by omega)
    refine pk_le N j (fun w => absurd w (by omega)) (fun _ => ⟨pk_in j 18 (by omega), ?_⟩)
    rw [cl]
    refine bI_br1 (ht j hj) (fun f => ?_) (fun f => nm_r (nI_1 j) (K (nI (ct_c tc j), ex) ⟨by rw [ct_nf f], ?_⟩))
    · have lt := ct_lt hj f
      have i1 : nI N - 1 - nI j = nI (N - 1 - j) := by rw [pm_1 (by omega), pk_sub (by omega)]
      refine pk_le 8 (ct_c tc j) (fun w => absurd w (by omega)) (fun _ => ⟨pk_in (ct_c tc j) 8 (by omega), nm_r (e' := upd ex (ct_c tc j) (nI (N - 1 - j))) (by rw [i1, nI_clamp (by omega)]) (nm_r (nI_1 _) (nm_r (nI_1 j) (K (nI (ct_c tc j + 1), upd ex (ct_c tc j) (nI (N - 1 - j))) ⟨by rw [ct_nt f], ?_⟩)))⟩)
      intro k hk hb
      show upd ex (ct_c tc j) (nI (N - 1 - j)) (ct_c tc k) = _
      by_cases w : k = j
      · rw [w, pk_us]
      · have := ct_lt (show k < j by omega) hb
        rw [pk_un (by omega)]
        exact g2 k (by omega) hb
    · intro k hk hb
      by_cases w : k = j
      · rw [w, f] at hb; exact nomatch hb
      · exact g2 k (by omega) hb
theorem yc_syn {F : Type} [Lean.Grind.Field F] [Lean.Grind.IsCharP F 2] {em : F → Int32} {al : F} (E : em_P em al) {post : Int32 → SY → Prop} {p b N i : Nat} {rc : Nat → F} (hp : p ≤ 8) (hb : b ≤ 254) (hN : N ≤ 18) (hi : i < p) (hw : ∀ i, i < N → a_received i = em (rc i)) (h : ∀ wo wt sy, post (em (sy_s N (nd_B al N b) (nd_X al N) rc i)) (nI p, f_k, nI b, f_messageLength, f_sentLength, nI N, f_state, f_resultLength, f_errorCount, f_erasureCount, a_message, a_sent, a_received, a_flags, a_delivered, a_changes, a_touched, wo, wt, sy, a_places, a_rows, a_values, a_exponents)) : ∃ n, wY_cell_109 post (nI i) (nI p) f_k (nI b) f_messageLength f_sentLength (nI N) f_state f_resultLength f_errorCount f_erasureCount n 0 a_message a_sent a_received a_flags a_delivered a_changes a_touched a_word a_weights a_syndromes a_places a_rows a_values a_exponents := by
  refine pk_loop (fun n j s => wY_cell_109 post (nI i) (nI p) f_k (nI b) f_messageLength f_sentLength (nI N) f_state f_resultLength f_errorCount f_erasureCount n (nI j) a_message a_sent a_received a_flags a_delivered a_changes a_touched s a_weights a_syndromes a_places a_rows a_values a_exponents) (fun j s => ∀ k, k < j → s k = em (rc k)) N 0 a_word (by omega) (fun k hk => absurd hk (by omega)) ?_ ?_
  · intro n wo hwo
    refine pk_le N N (fun _ => ?_) (fun w => absurd w (by omega))
    refine yp_prep E hN hp hb hwo (fun wt sy hwt hsy => ⟨pk_in i 8 (by omega), ?_⟩)
    have K := h wo wt sy
    rw [← hsy i hi] at K
    rw [nI_clamp (by omega)]
    exact K
  · intro n j s hj hs K
    have cl : (nI j).toNatClampNeg = j := nI_clamp (by omega)
    refine pk_le N j (fun w => absurd w (by omega)) (fun _ => ⟨pk_in j 18 (by omega), pk_in j 18 (by omega), nm_r (e' := upd s j (em (rc j))) (by rw [cl, hw j hj]) (nm_r (nI_1 j) (K _ ?_))⟩)
    intro k hk
    by_cases e : k = j
    · rw [e, pk_us]
    · rw [pk_un e]; exact hs k (by omega)
end
end
section
/-! the small methods' loops -/
section
variable {f_p f_k f_b f_messageLength f_sentLength f_receivedLength f_resultStatus f_deliveredLength f_errorCount f_erasureCount : Int32} {a_powers a_logs a_generator a_message a_sent a_received a_flags a_delivered a_changes a_locator a_syndromes a_modified a_evaluator a_register a_previous a_saved a_located : Nat → Int32}
theorem xr_start {post : SX → Prop} {x : Int32} (h : ∀ f, (∀ i, i < 18 → f i = 0) → post (f_p, f_k, f_b, f_messageLength, f_sentLength, x, f_resultStatus, f_deliveredLength, f_errorCount, f_erasureCount, a_powers, a_logs, a_generator, a_message, a_sent, a_received, f, a_delivered, a_changes, a_locator, a_syndromes, a_modified, a_evaluator, a_register, a_previous, a_saved, a_located)) : wpX_startReceived post (f_p, f_k, f_b, f_messageLength, f_sentLength, f_receivedLength, f_resultStatus, f_deliveredLength, f_errorCount, f_erasureCount, a_powers, a_logs, a_generator, a_message, a_sent, a_received, a_flags, a_delivered, a_changes, a_locator, a_syndromes, a_modified, a_evaluator, a_register, a_previous, a_saved, a_located) x := by
  refine pk_loop (fun n i s => wX_startReceived_7 post f_p f_k f_b f_messageLength f_sentLength x f_resultStatus f_deliveredLength f_errorCount f_erasureCount n (nI i) a_powers a_logs a_generator a_message a_sent a_received s a_delivered a_changes a_locator a_syndromes a_modified a_evaluator a_register a_previous a_saved a_located) (fun i s => ∀ k, k < i → s k = 0) 18 0 a_flags (by omega) (fun k hk => absurd hk (by omega)) ?_ ?_
  · intro n s hs
    exact pk_le 18 18 (fun _ => h s hs) (fun w => absurd w (by omega))
  · intro n i s hi hs K
    refine pk_le 18 i (fun w => absurd w (by omega)) (fun _ => ⟨pk_in i 18 (by omega), nm_r (e' := upd s i 0) (by rw [nI_clamp (by omega)]; rfl) (nm_r (nI_1 i) (K _ ?_))⟩)
    intro k hk
    by_cases e : k = i
    · rw [e, pk_us]
    · rw [pk_un e]; exact hs k (by omega)
theorem xr_transmit {post : Int32 → SX → Prop} {l : Nat} (hl : l ≤ 18) (h : ∀ r f, (∀ i, i < l → r i = a_sent i) → (∀ i, i < 18 → f i = 0) → post (nI l) (f_p, f_k, f_b, f_messageLength, nI l, nI l, f_resultStatus, f_deliveredLength, f_errorCount, f_erasureCount, a_powers, a_logs, a_generator, a_message, a_sent, r, f, a_delivered, a_changes, a_locator, a_syndromes, a_modified, a_evaluator, a_register, a_previous, a_saved, a_located)) : ∃ n, wX_transmit_11 post f_p f_k f_b f_messageLength (nI l) f_receivedLength f_resultStatus f_deliveredLength f_errorCount f_erasureCount n 0 a_powers a_logs a_generator a_message a_sent a_received a_flags a_delivered a_changes a_locator a_syndromes a_modified a_evaluator a_register a_previous a_saved a_located := by
  refine pk_loop (fun n i s => wX_transmit_11 post f_p f_k f_b f_messageLength (nI l) f_receivedLength f_resultStatus f_deliveredLength f_errorCount f_erasureCount n (nI i) a_powers a_logs a_generator a_message a_sent s a_flags a_delivered a_changes a_locator a_syndromes a_modified a_evaluator a_register a_previous a_saved a_located) (fun i s => ∀ k, k < i → s k = a_sent k) l 0 a_received (by omega) (fun k hk => absurd hk (by omega)) ?_ ?_
  · intro n s hs
    refine pk_le l l (fun _ => ?_) (fun w => absurd w (by omega))
    exact xr_start (fun f hf => h s f hs hf)
  · intro n i s hi hs K
    have cl : (nI i).toNatClampNeg = i := nI_clamp (by omega)
    refine pk_le l i (fun w => absurd w (by omega)) (fun _ => ⟨pk_in i 18 (by omega), pk_in i 18 (by omega), nm_r (e' := upd s i (a_sent i)) (by rw [cl]) (nm_r (nI_1 i) (K _ ?_))⟩)
    intro k hk
    by_cases e : k = i
    · rw [e, pk_us]
    · rw [pk_un e]; exact hs k (by omega)
theorem xr_adopt {post : Int32 → SX → Prop} {l : Nat} (hl : l ≤ 18) (h : ∀ r f, (∀ i, i < l → r i = a_delivered i) → (∀ i, i < 18 → f i = 0) → post (nI l) (f_p, f_k, f_b, f_messageLength, f_sentLength, nI l, f_resultStatus, nI l, f_errorCount, f_erasureCount, a_powers, a_logs, a_generator, a_message, a_sent, r, f, a_delivered, a_changes, a_locator, a_syndromes, a_modified, a_evaluator, a_register, a_previous, a_saved, a_located)) : ∃ n, wX_adopt_11 post f_p f_k f_b f_messageLength f_sentLength f_receivedLength f_resultStatus (nI l) f_errorCount f_erasureCount n 0 a_powers a_logs a_generator a_message a_sent a_received a_flags a_delivered a_changes a_locator a_syndromes a_modified a_evaluator a_register a_previous a_saved a_located := by
  refine pk_loop (fun n i s => wX_adopt_11 post f_p f_k f_b f_messageLength f_sentLength f_receivedLength f_resultStatus (nI l) f_errorCount f_erasureCount n (nI i) a_powers a_logs a_generator a_message a_sent s a_flags a_delivered a_changes a_locator a_syndromes a_modified a_evaluator a_register a_previous a_saved a_located) (fun i s => ∀ k, k < i → s k = a_delivered k) l 0 a_received (by omega) (fun k hk => absurd hk (by omega)) ?_ ?_
  · intro n s hs
    refine pk_le l l (fun _ => ?_) (fun w => absurd w (by omega))
    exact xr_start (fun f hf => h s f hs hf)
  · intro n i s hi hs K
    have cl : (nI i).toNatClampNeg = i := nI_clamp (by omega)
    refine pk_le l i (fun w => absurd w (by omega)) (fun _ => ⟨pk_in i 18 (by omega), pk_in i 18 (by omega), nm_r (e' := upd s i (a_delivered i)) (by rw [cl]) (nm_r (nI_1 i) (K _ ?_))⟩)
    intro k hk
    by_cases e : k = i
    · rw [e, pk_us]
    · rw [pk_un e]; exact hs k (by omega)
theorem xr_load {post : Int32 → SX → Prop} {l : Nat} (hl : l ≤ 18) (h : ∀ r f, (∀ i, i < l → r i = 0) → (∀ i, i < 18 → f i = 0) → post (nI l) (f_p, f_k, f_b, f_messageLength, f_sentLength, nI l, f_resultStatus, f_deliveredLength, f_errorCount, f_erasureCount, a_powers, a_logs, a_generator, a_message, a_sent, r, f, a_delivered, a_changes, a_locator, a_syndromes, a_modified, a_evaluator, a_register, a_previous, a_saved, a_located)) : ∃ n, wX_load_27 post (nI l) f_p f_k f_b f_messageLength f_sentLength f_receivedLength f_resultStatus f_deliveredLength f_errorCount f_erasureCount n 0 a_powers a_logs a_generator a_message a_sent a_received a_flags a_delivered a_changes a_locator a_syndromes a_modified a_evaluator a_register a_previous a_saved a_located := by
  refine pk_loop (fun n i s => wX_load_27 post (nI l) f_p f_k f_b f_messageLength f_sentLength f_receivedLength f_resultStatus f_deliveredLength f_errorCount f_erasureCount n (nI i) a_powers a_logs a_generator a_message a_sent s a_flags a_delivered a_changes a_locator a_syndromes a_modified a_evaluator a_register a_previous a_saved a_located) (fun i s => ∀ k, k < i → s k = 0) l 0 a_received (by omega) (fun k hk => absurd hk (by omega)) ?_ ?_
  · intro n s hs
    refine pk_le l l (fun _ => ?_) (fun w => absurd w (by omega))
    exact xr_start (fun f hf => h s f hs hf)
  · intro n i s hi hs K
    have cl : (nI i).toNatClampNeg = i := nI_clamp (by omega)
    refine pk_le l i (fun w => absurd w (by omega)) (fun _ => ⟨pk_in i 18 (by omega), nm_r (e' := upd s i 0) (by rw [cl]) (nm_r (nI_1 i) (K _ ?_))⟩)
    intro k hk
    by_cases e : k = i
    · rw [e, pk_us]
    · rw [pk_un e]; exact hs k (by omega)
theorem xr_missed {F : Type} [Lean.Grind.Field F] [Lean.Grind.IsCharP F 2] {em : F → Int32} {al : F} (E : em_P em al) {post : Int32 → Prop} {l : Nat} {sw dl : Nat → F} (hl : l ≤ 18) (hs : ∀ i, i < l → a_sent i = em (sw i)) (hd : ∀ i, i < l → a_delivered i = em (dl i)) (h : post (nI (ct_c (fun i => nz_b (sw i + dl i)) l))) : ∃ n, wX_missed_33 post f_p f_k f_b f_messageLength (nI l) f_receivedLength f_resultStatus f_deliveredLength f_errorCount f_erasureCount a_powers a_logs a_generator a_message a_sent a_received a_flags a_delivered a_changes a_locator a_syndromes a_modified a_evaluator a_register a_previous a_saved a_located n 0 0 := by
  refine pk_loop (fun n i s => wX_missed_33 post f_p f_k f_b f_messageLength (nI l) f_receivedLength f_resultStatus f_deliveredLength f_errorCount f_erasureCount a_powers a_logs a_generator a_message a_sent a_received a_flags a_delivered a_changes a_locator a_syndromes a_modified a_evaluator a_register a_previous a_saved a_located n s (nI i)) (fun i s => s = nI (ct_c (fun i => nz_b (sw i + dl i)) i)) l 0 0 (by omega) rfl ?_ ?_
  · intro n s e
    exact pk_le l l (fun _ => by rw [e]; exact h) (fun w => absurd w (by omega))
  · intro n i s hi e K
    subst e
    refine pk_le l i (fun w => absurd w (by omega)) (fun _ => ⟨pk_in i 18 (by omega), pk_in i 18 (by omega), ?_⟩)
    rw [nI_clamp (by omega), hs i hi, hd i hi]
    by_cases q : sw i = dl i
    · refine br_t (by rw [q]) (nm_r (nI_1 i) (K _ ?_))
      rw [ct_nf (P := fun i => nz_b (sw i + dl i)) (nz_f.mpr (by rw [q]; exact c2_s _))]
    · refine br_f (fun w => q (em_inj E w)) (nm_r (nI_1 _) (nm_r (nI_1 i) (K _ ?_)))
      rw [ct_nt (P := fun i => nz_b (sw i + dl i)) (nz_t.mpr (fun w => q (c2_e w)))]
end
section
variable {f_p f_k f_b f_messageLength f_sentLength f_receivedLength f_state f_resultLength f_errorCount f_erasureCount : Int32} {a_message a_sent a_received a_flags a_delivered a_changes a_touched a_word a_weights a_syndromes a_places a_rows a_values a_exponents : Nat → Int32}
theorem yr_missed {F : Type} [Lean.Grind.Field F] [Lean.Grind.IsCharP F 2] {em : F → Int32} {al : F} (E : em_P em al) {post : Int32 → Prop} {l : Nat} {sw dl : Nat → F} (hl : l ≤ 18) (hs : ∀ i, i < l → a_sent i = em (sw i)) (hd : ∀ i, i < l → a_delivered i = em (dl i)) (h : post (nI (ct_c (fun i => nz_b (sw i + dl i)) l))) : ∃ n, wY_missed_35 post f_p f_k f_b f_messageLength f_sentLength f_receivedLength f_state (nI l) f_errorCount f_erasureCount a_message a_sent a_received a_flags a_delivered a_changes a_touched a_word a_weights a_syndromes a_places a_rows a_values a_exponents n 0 0 := by
  refine pk_loop (fun n i s => wY_missed_35 post f_p f_k f_b f_messageLength f_sentLength f_receivedLength f_state (nI l) f_errorCount f_erasureCount a_message a_sent a_received a_flags a_delivered a_changes a_touched a_word a_weights a_syndromes a_places a_rows a_values a_exponents n s (nI i)) (fun i s => s = nI (ct_c (fun i => nz_b (sw i + dl i)) i)) l 0 0 (by omega) rfl ?_ ?_
  · intro n s e
    exact pk_le l l (fun _ => by rw [e]; exact h) (fun w => absurd w (by omega))
  · intro n i s hi e K
    subst e
    refine pk_le l i (fun w => absurd w (by omega)) (fun _ => ⟨pk_in i 18 (by omega), pk_in i 18 (by omega), ?_⟩)
    rw [nI_clamp (by omega), hs i hi, hd i hi]
    by_cases q : sw i = dl i
    · refine br_t (by rw [q]) (nm_r (nI_1 i) (K _ ?_))
      rw [ct_nf (P := fun i => nz_b (sw i + dl i)) (nz_f.mpr (by rw [q]; exact c2_s _))]
    · refine br_f (fun w => q (em_inj E w)) (nm_r (nI_1 _) (nm_r (nI_1 i) (K _ ?_)))
      rw [ct_nt (P := fun i => nz_b (sw i + dl i)) (nz_t.mpr (fun w => q (c2_e w)))]
theorem yr_transmit {post : Int32 → SY → Prop} (h : ∀ r f, (∀ i, i < 18 → r i = a_sent i) → (∀ i, i < 18 → f i = 0) → post f_sentLength (f_p, f_k, f_b, f_messageLength, f_sentLength, f_sentLength, f_state, f_resultLength, f_errorCount, f_erasureCount, a_message, a_sent, r, f, a_delivered, a_changes, a_touched, a_word, a_weights, a_syndromes, a_places, a_rows, a_values, a_exponents)) : ∃ n, wY_transmit_11 post f_p f_k f_b f_messageLength f_sentLength f_receivedLength f_state f_resultLength f_errorCount f_erasureCount n 0 a_message a_sent a_received a_flags a_delivered a_changes a_touched a_word a_weights a_syndromes a_places a_rows a_values a_exponents := by
  refine pk_loop (σ := (Nat → Int32) × (Nat → Int32)) (fun n i s => wY_transmit_11 post f_p f_k f_b f_messageLength f_sentLength f_receivedLength f_state f_resultLength f_errorCount f_erasureCount n (nI i) a_message a_sent (s.1) (s.2) a_delivered a_changes a_touched a_word a_weights a_syndromes a_places a_rows a_values a_exponents) (fun i s => (∀ k, k < i → s.1 k = a_sent k) ∧ ∀ k, k < i → s.2 k = 0) 18 0 (a_received, a_flags) (by omega) ⟨fun k hk => absurd hk (by omega), fun k hk => absurd hk (by omega)⟩ ?_ ?_
  · intro n s hs
    exact pk_le 18 18 (fun _ => h _ _ hs.1 hs.2) (fun w => absurd w (by omega))
  · intro n i s hi hs K
    have cl : (nI i).toNatClampNeg = i := nI_clamp (by omega)
    refine pk_le 18 i (fun w => absurd w (by omega)) (fun _ => ⟨pk_in i 18 (by omega), pk_in i 18 (by omega), nm_r (e' := upd s.1 i (a_sent i)) (by rw [cl]) ⟨pk_in i 18 (by omega), nm_r (e' := upd s.2 i 0) (by rw [cl]) (nm_r (nI_1 i) (K (upd s.1 i (a_sent i), upd s.2 i 0) ⟨?_, ?_⟩))⟩⟩)
    · intro k hk
      show upd s.1 i (a_sent i) k = _
      by_cases e : k = i
      · rw [e, pk_us]
      · rw [pk_un e]; exact hs.1 k (by omega)
    · intro k hk
      show upd s.2 i 0 k = _
      by_cases e : k = i
      · rw [e, pk_us]
      · rw [pk_un e]; exact hs.2 k (by omega)
theorem yr_adopt {post : Int32 → SY → Prop} (h : ∀ r f, (∀ i, i < 18 → r i = a_delivered i) → (∀ i, i < 18 → f i = 0) → post f_resultLength (f_p, f_k, f_b, f_messageLength, f_sentLength, f_resultLength, f_state, f_resultLength, f_errorCount, f_erasureCount, a_message, a_sent, r, f, a_delivered, a_changes, a_touched, a_word, a_weights, a_syndromes, a_places, a_rows, a_values, a_exponents)) : ∃ n, wY_adopt_11 post f_p f_k f_b f_messageLength f_sentLength f_receivedLength f_state f_resultLength f_errorCount f_erasureCount n 0 a_message a_sent a_received a_flags a_delivered a_changes a_touched a_word a_weights a_syndromes a_places a_rows a_values a_exponents := by
  refine pk_loop (σ := (Nat → Int32) × (Nat → Int32)) (fun n i s => wY_adopt_11 post f_p f_k f_b f_messageLength f_sentLength f_receivedLength f_state f_resultLength f_errorCount f_erasureCount n (nI i) a_message a_sent (s.1) (s.2) a_delivered a_changes a_touched a_word a_weights a_syndromes a_places a_rows a_values a_exponents) (fun i s => (∀ k, k < i → s.1 k = a_delivered k) ∧ ∀ k, k < i → s.2 k = 0) 18 0 (a_received, a_flags) (by omega) ⟨fun k hk => absurd hk (by omega), fun k hk => absurd hk (by omega)⟩ ?_ ?_
  · intro n s hs
    exact pk_le 18 18 (fun _ => h _ _ hs.1 hs.2) (fun w => absurd w (by omega))
  · intro n i s hi hs K
    have cl : (nI i).toNatClampNeg = i := nI_clamp (by omega)
    refine pk_le 18 i (fun w => absurd w (by omega)) (fun _ => ⟨pk_in i 18 (by omega), pk_in i 18 (by omega), nm_r (e' := upd s.1 i (a_delivered i)) (by rw [cl]) ⟨pk_in i 18 (by omega), nm_r (e' := upd s.2 i 0) (by rw [cl]) (nm_r (nI_1 i) (K (upd s.1 i (a_delivered i), upd s.2 i 0) ⟨?_, ?_⟩))⟩⟩)
    · intro k hk
      show upd s.1 i (a_delivered i) k = _
      by_cases e : k = i
      · rw [e, pk_us]
      · rw [pk_un e]; exact hs.1 k (by omega)
    · intro k hk
      show upd s.2 i 0 k = _
      by_cases e : k = i
      · rw [e, pk_us]
      · rw [pk_un e]; exact hs.2 k (by omega)
theorem yr_load {post : Int32 → SY → Prop} {x : Int32} (h : ∀ r f, (∀ i, i < 18 → r i = 0) → (∀ i, i < 18 → f i = 0) → post x (f_p, f_k, f_b, f_messageLength, f_sentLength, x, f_state, f_resultLength, f_errorCount, f_erasureCount, a_message, a_sent, r, f, a_delivered, a_changes, a_touched, a_word, a_weights, a_syndromes, a_places, a_rows, a_values, a_exponents)) : ∃ n, wY_load_27 post x f_p f_k f_b f_messageLength f_sentLength f_receivedLength f_state f_resultLength f_errorCount f_erasureCount n 0 a_message a_sent a_received a_flags a_delivered a_changes a_touched a_word a_weights a_syndromes a_places a_rows a_values a_exponents := by
  refine pk_loop (σ := (Nat → Int32) × (Nat → Int32)) (fun n i s => wY_load_27 post x f_p f_k f_b f_messageLength f_sentLength f_receivedLength f_state f_resultLength f_errorCount f_erasureCount n (nI i) a_message a_sent (s.1) (s.2) a_delivered a_changes a_touched a_word a_weights a_syndromes a_places a_rows a_values a_exponents) (fun i s => (∀ k, k < i → s.1 k = 0) ∧ ∀ k, k < i → s.2 k = 0) 18 0 (a_received, a_flags) (by omega) ⟨fun k hk => absurd hk (by omega), fun k hk => absurd hk (by omega)⟩ ?_ ?_
  · intro n s hs
    exact pk_le 18 18 (fun _ => h _ _ hs.1 hs.2) (fun w => absurd w (by omega))
  · intro n i s hi hs K
    have cl : (nI i).toNatClampNeg = i := nI_clamp (by omega)
    refine pk_le 18 i (fun w => absurd w (by omega)) (fun _ => ⟨pk_in i 18 (by omega), nm_r (e' := upd s.1 i 0) (by rw [cl]) ⟨pk_in i 18 (by omega), nm_r (e' := upd s.2 i 0) (by rw [cl]) (nm_r (nI_1 i) (K (upd s.1 i 0, upd s.2 i 0) ⟨?_, ?_⟩))⟩⟩)
    · intro k hk
      show upd s.1 i 0 k = _
      by_cases e : k = i
      · rw [e, pk_us]
      · rw [pk_un e]; exact hs.1 k (by omega)
    · intro k hk
      show upd s.2 i 0 k = _
      by_cases e : k = i
      · rw [e, pk_us]
      · rw [pk_un e]; exact hs.2 k (by omega)
end
end
section
/-! the relation -/
def pr_P {F : Type} (em : F → Int32) (n : Nat) (a b : Nat → Int32) : Prop := ∃ w : Nat → F, ∀ i, i < n → a i = em (w i) ∧ b i = em (w i)
def fl_P (n : Nat) (a b : Nat → Int32) : Prop := ∃ f : Nat → Bool, ∀ i, i < n → a i = bI_b (f i) ∧ b i = bI_b (f i)
/-- a delivery, the same on both sides -/
def dl_P {F : Type} [Lean.Grind.Field F] (em : F → Int32) (al : F) (xl xe xr : Int32) (xd xc xo : Nat → Int32) (yl ye yr : Int32) (yd yc yt : Nat → Int32) : Prop :=
  ∃ (N ec er : Nat) (d c : Nat → F) (tc : Nat → Bool), N ≤ 18 ∧ ct_c tc N = ec + er ∧ ec + er ≤ 8 ∧ (xl = nI N ∧ yl = nI N) ∧ (xe = nI ec ∧ ye = nI ec) ∧ (xr = nI er ∧ yr = nI er) ∧ (∀ i, i < N → xd i = em (d i) ∧ yd i = em (d i)) ∧ (∀ i, i < N → xc i = em (c i) ∧ yc i = em (c i)) ∧ (∀ i, i < N → yt i = bI_b (tc i)) ∧ ∀ t, t < 9 → xo t = em (lm_l (nd_X al N) tc (on_e : Nat → F) N t)
/-- the constants of an object -/
def rc_P {F : Type} [Lean.Grind.Field F] (em : F → Int32) (al : F) (p k b ml sl rl : Nat) (pw lg gn : Nat → Int32) : Prop := (2 ≤ p ∧ p ≤ 8 ∧ 1 ≤ k ∧ k ≤ 10 ∧ b ≤ 254 ∧ ml ≤ k ∧ sl ≤ 18 ∧ rl ≤ 18) ∧ tb_T em al pw lg ∧ ∀ t, t < 9 → gn t = em (gn_g (fun j => al ^ (b + j)) p t)
def rl_R {F : Type} [Lean.Grind.Field F] (em : F → Int32) (al : F) (u : SX) (v : SY) : Prop := match u with
  | (f_p, f_k, f_b, f_messageLength, f_sentLength, f_receivedLength, f_resultStatus, f_deliveredLength, f_errorCount, f_erasureCount, a_powers, a_logs, a_generator, a_message, a_sent, a_received, a_flags, a_delivered, a_changes, a_locator, a_syndromes, a_modified, a_evaluator, a_register, a_previous, a_saved, a_located) => match v with
    | (g_p, g_k, g_b, g_messageLength, g_sentLength, g_receivedLength, g_state, g_resultLength, g_errorCount, g_erasureCount, b_message, b_sent, b_received, b_flags, b_delivered, b_changes, b_touched, b_word, b_weights, b_syndromes, b_places, b_rows, b_values, b_exponents) => ∃ p k b ml sl rl : Nat, (f_p = nI p ∧ f_k = nI k ∧ f_b = nI b ∧ f_messageLength = nI ml ∧ f_sentLength = nI sl ∧ f_receivedLength = nI rl) ∧ (g_p = nI p ∧ g_k = nI k ∧ g_b = nI b ∧ g_messageLength = nI ml ∧ g_sentLength = nI sl ∧ g_receivedLength = nI rl ∧ g_state = f_resultStatus) ∧ rc_P em al p k b ml sl rl a_powers a_logs a_generator ∧ pr_P em ml a_message b_message ∧ pr_P em sl a_sent b_sent ∧ pr_P em rl a_received b_received ∧ fl_P rl a_flags b_flags ∧ ((f_resultStatus = 1 ∨ f_resultStatus = 2) → dl_P em al f_deliveredLength f_errorCount f_erasureCount a_delivered a_changes a_locator g_resultLength g_errorCount g_erasureCount b_delivered b_changes b_touched)
section
variable {f_p f_k f_b f_messageLength f_sentLength f_receivedLength f_resultStatus f_deliveredLength f_errorCount f_erasureCount : Int32} {a_powers a_logs a_generator a_message a_sent a_received a_flags a_delivered a_changes a_locator a_syndromes a_modified a_evaluator a_register a_previous a_saved a_located : Nat → Int32} {g_p g_k g_b g_messageLength g_sentLength g_receivedLength g_state g_resultLength g_errorCount g_erasureCount : Int32} {b_message b_sent b_received b_flags b_delivered b_changes b_touched b_word b_weights b_syndromes b_places b_rows b_values b_exponents : Nat → Int32}
theorem rl_mk {F : Type} [Lean.Grind.Field F] {em : F → Int32} {al : F} {p k b ml sl rl : Nat} (C : rc_P em al p k b ml sl rl a_powers a_logs a_generator) (m : pr_P em ml a_message b_message) (s : pr_P em sl a_sent b_sent) (r : pr_P em rl a_received b_received) (f : fl_P rl a_flags b_flags) (d : (f_resultStatus = 1 ∨ f_resultStatus = 2) → dl_P em al f_deliveredLength f_errorCount f_erasureCount a_delivered a_changes a_locator g_resultLength g_errorCount g_erasureCount b_delivered b_changes b_touched) :
    rl_R em al (nI p, nI k, nI b, nI ml, nI sl, nI rl, f_resultStatus, f_deliveredLength, f_errorCount, f_erasureCount, a_powers, a_logs, a_generator, a_message, a_sent, a_received, a_flags, a_delivered, a_changes, a_locator, a_syndromes, a_modified, a_evaluator, a_register, a_previous, a_saved, a_located) (nI p, nI k, nI b, nI ml, nI sl, nI rl, f_resultStatus, g_resultLength, g_errorCount, g_erasureCount, b_message, b_sent, b_received, b_flags, b_delivered, b_changes, b_touched, b_word, b_weights, b_syndromes, b_places, b_rows, b_values, b_exponents) :=
  ⟨p, k, b, ml, sl, rl, ⟨rfl, rfl, rfl, rfl, rfl, rfl⟩, ⟨rfl, rfl, rfl, rfl, rfl, rfl, rfl⟩, C, m, s, r, f, d⟩
end
theorem rl_el {F : Type} [Lean.Grind.Field F] {em : F → Int32} {al : F} {P : SX → SY → Prop} {u : SX} {v : SY} (I : rl_R em al u v)
    (h : ∀ (p k b ml sl rl : Nat) (f_resultStatus f_deliveredLength f_errorCount f_erasureCount : Int32) (a_powers a_logs a_generator a_message a_sent a_received a_flags a_delivered a_changes a_locator a_syndromes a_modified a_evaluator a_register a_previous a_saved a_located : Nat → Int32) (g_resultLength g_errorCount g_erasureCount : Int32) (b_message b_sent b_received b_flags b_delivered b_changes b_touched b_word b_weights b_syndromes b_places b_rows b_values b_exponents : Nat → Int32), rc_P em al p k b ml sl rl a_powers a_logs a_generator → pr_P em ml a_message b_message → pr_P em sl a_sent b_sent → pr_P em rl a_received b_received → fl_P rl a_flags b_flags → ((f_resultStatus = 1 ∨ f_resultStatus = 2) → dl_P em al f_deliveredLength f_errorCount f_erasureCount a_delivered a_changes a_locator g_resultLength g_errorCount g_erasureCount b_delivered b_changes b_touched) →
      rl_R em al (nI p, nI k, nI b, nI ml, nI sl, nI rl, f_resultStatus, f_deliveredLength, f_errorCount, f_erasureCount, a_powers, a_logs, a_generator, a_message, a_sent, a_received, a_flags, a_delivered, a_changes, a_locator, a_syndromes, a_modified, a_evaluator, a_register, a_previous, a_saved, a_located) (nI p, nI k, nI b, nI ml, nI sl, nI rl, f_resultStatus, g_resultLength, g_errorCount, g_erasureCount, b_message, b_sent, b_received, b_flags, b_delivered, b_changes, b_touched, b_word, b_weights, b_syndromes, b_places, b_rows, b_values, b_exponents) →
      P (nI p, nI k, nI b, nI ml, nI sl, nI rl, f_resultStatus, f_deliveredLength, f_errorCount, f_erasureCount, a_powers, a_logs, a_generator, a_message, a_sent, a_received, a_flags, a_delivered, a_changes, a_locator, a_syndromes, a_modified, a_evaluator, a_register, a_previous, a_saved, a_located) (nI p, nI k, nI b, nI ml, nI sl, nI rl, f_resultStatus, g_resultLength, g_errorCount, g_erasureCount, b_message, b_sent, b_received, b_flags, b_delivered, b_changes, b_touched, b_word, b_weights, b_syndromes, b_places, b_rows, b_values, b_exponents)) : P u v := by
  obtain ⟨f_p, f_k, f_b, f_messageLength, f_sentLength, f_receivedLength, f_resultStatus, f_deliveredLength, f_errorCount, f_erasureCount, a_powers, a_logs, a_generator, a_message, a_sent, a_received, a_flags, a_delivered, a_changes, a_locator, a_syndromes, a_modified, a_evaluator, a_register, a_previous, a_saved, a_located⟩ := u
  obtain ⟨g_p, g_k, g_b, g_messageLength, g_sentLength, g_receivedLength, g_state, g_resultLength, g_errorCount, g_erasureCount, b_message, b_sent, b_received, b_flags, b_delivered, b_changes, b_touched, b_word, b_weights, b_syndromes, b_places, b_rows, b_values, b_exponents⟩ := v
  obtain ⟨p, k, b, ml, sl, rl, ⟨h1, h2, h3, h4, h5, h6⟩, ⟨k1, k2, k3, k4, k5, k6, k7⟩, C, m, s, r, f, d⟩ := I
  subst h1 h2 h3 h4 h5 h6 k1 k2 k3 k4 k5 k6 k7
  exact h p k b ml sl rl _ _ _ _ _ _ _ _ _ _ _ _ _ _ _ _ _ _ _ _ _ _ _ _ _ _ _ _ _ _ _ _ _ _ _ _ _ _ C m s r f d (rl_mk C m s r f d)
end
section
/-! the calls, one by one: the first part -/
theorem vc_parameter {F : Type} [Lean.Grind.Field F] [Lean.Grind.IsCharP F 2] {em : F → Int32} {al : F} (E : em_P em al) {u : SX} {v : SY} (I : rl_R em al u v) (v1 : Int32) : wpX_parameter (fun r => wpY_parameter (fun r' => r' = r ∧ rl_R em al u v) v v1) u v1 := by
  refine rl_el (P := fun u v => wpX_parameter (fun r => wpY_parameter (fun r' => r' = r ∧ rl_R em al u v) v v1) u v1) I ?_
  intro p k b ml sl rl f_resultStatus f_deliveredLength f_errorCount f_erasureCount a_powers a_logs a_generator a_message a_sent a_received a_flags a_delivered a_changes a_locator a_syndromes a_modified a_evaluator a_register a_previous a_saved a_located g_resultLength g_errorCount g_erasureCount b_message b_sent b_received b_flags b_delivered b_changes b_touched b_word b_weights b_syndromes b_places b_rows b_values b_exponents C mm ss rr ff dd R
  exact br_c (fun h0 => br_t h0 ⟨rfl, R⟩) (fun h0 => br_c (fun h1 => br_f h0 (br_t h1 ⟨rfl, R⟩)) (fun h1 => br_c (fun h2 => br_f h0 (br_f h1 (br_t h2 ⟨rfl, R⟩))) (fun h2 => br_f h0 (br_f h1 (br_f h2 ⟨rfl, R⟩)))))
theorem vc_multiply {F : Type} [Lean.Grind.Field F] [Lean.Grind.IsCharP F 2] {em : F → Int32} {al : F} (E : em_P em al) {u : SX} {v : SY} (I : rl_R em al u v) (v1 v2 : Int32) : wpX_multiply (fun r => wpY_multiply (fun r' => r' = r ∧ rl_R em al u v) v v1 v2) u v1 v2 := by
  refine rl_el (P := fun u v => wpX_multiply (fun r => wpY_multiply (fun r' => r' = r ∧ rl_R em al u v) v v1 v2) u v1 v2) I ?_
  intro p k b ml sl rl f_resultStatus f_deliveredLength f_errorCount f_erasureCount a_powers a_logs a_generator a_message a_sent a_received a_flags a_delivered a_changes a_locator a_syndromes a_modified a_evaluator a_register a_previous a_saved a_located g_resultLength g_errorCount g_erasureCount b_message b_sent b_received b_flags b_delivered b_changes b_touched b_word b_weights b_syndromes b_places b_rows b_values b_exponents C mm ss rr ff dd R
  obtain ⟨_, T, G⟩ := C
  unfold wpX_multiply
  refine xp_isEl v1 (fun a0 a1 => br_f (by decide) (xp_isEl v2 (fun c0 c1 => br_f (by decide) ?_) (fun c => br_t rfl ?_))) (fun c => br_t rfl ?_)
  · obtain ⟨x, rfl⟩ := em_of E a0 a1
    obtain ⟨y, rfl⟩ := em_of E c0 c1
    refine xp_product E T x y rfl rfl ?_
    exact yp_mul E x y rfl rfl ⟨rfl, R⟩
  · refine br_f a0 (br_f (Int32.not_lt.mpr a1) ?_)
    by_cases n : v2 < 0
    · exact br_t n ⟨rfl, R⟩
    · exact br_f n (br_f (c.resolve_left n) ⟨rfl, R⟩)
  · by_cases n : v1 < 0
    · exact br_t n ⟨rfl, R⟩
    · exact br_f n (br_t (Int32.not_le.mp (c.resolve_left n)) ⟨rfl, R⟩)
theorem ge_1 {x : Int32} (h0 : ¬ x < 0) (h : ¬ x = 0) : ¬ x < 1 := by
  obtain ⟨j, hj, rfl⟩ := nI_of h0
  refine nI_nlt (b := 1) ?_ hj
  apply Classical.byContradiction
  intro q
  apply h
  rw [show j = 0 by omega]
  rfl
theorem vc_divide {F : Type} [Lean.Grind.Field F] [Lean.Grind.IsCharP F 2] {em : F → Int32} {al : F} (E : em_P em al) {u : SX} {v : SY} (I : rl_R em al u v) (v1 v2 : Int32) : wpX_divide (fun r => wpY_divide (fun r' => r' = r ∧ rl_R em al u v) v v1 v2) u v1 v2 := by
  refine rl_el (P := fun u v => wpX_divide (fun r => wpY_divide (fun r' => r' = r ∧ rl_R em al u v) v v1 v2) u v1 v2) I ?_
  intro p k b ml sl rl f_resultStatus f_deliveredLength f_errorCount f_erasureCount a_powers a_logs a_generator a_message a_sent a_received a_flags a_delivered a_changes a_locator a_syndromes a_modified a_evaluator a_register a_previous a_saved a_located g_resultLength g_errorCount g_erasureCount b_message b_sent b_received b_flags b_delivered b_changes b_touched b_word b_weights b_syndromes b_places b_rows b_values b_exponents C mm ss rr ff dd R
  obtain ⟨_, T, G⟩ := C
  unfold wpX_divide
  refine xp_isEl v1 (fun a0 a1 => br_f (by decide) (xp_isEl v2 (fun c0 c1 => br_f (by decide) (br_c (fun z => ?_) (fun z => ?_))) (fun c => br_t rfl ?_))) (fun c => br_t rfl ?_)
  · exact br_f a0 (br_f (Int32.not_lt.mpr a1) (br_t (by rw [z]; decide) ⟨rfl, R⟩))
  · obtain ⟨x, rfl⟩ := em_of E a0 a1
    obtain ⟨y, rfl⟩ := em_of E c0 c1
    refine xp_quotient E T x y rfl rfl ?_
    exact yp_div E x y (fun q => z ((em_z E).mpr q)) rfl rfl ⟨rfl, R⟩
  · refine br_f a0 (br_f (Int32.not_lt.mpr a1) ?_)
    by_cases n : v2 < 1
    · exact br_t n ⟨rfl, R⟩
    · refine br_f n (br_f (c.resolve_left (fun q => n ?_)) ⟨rfl, R⟩)
      exact Int32.lt_trans q (by decide)
  · by_cases n : v1 < 0
    · exact br_t n ⟨rfl, R⟩
    · exact br_f n (br_t (Int32.not_le.mp (c.resolve_left n)) ⟨rfl, R⟩)
theorem vc_alphaPower {F : Type} [Lean.Grind.Field F] [Lean.Grind.IsCharP F 2] {em : F → Int32} {al : F} (E : em_P em al) {u : SX} {v : SY} (I : rl_R em al u v) (v1 : Int32) : wpX_alphaPower (fun r => wpY_alphaPower (fun r' => r' = r ∧ rl_R em al u v) v v1) u v1 := by
  refine rl_el (P := fun u v => wpX_alphaPower (fun r => wpY_alphaPower (fun r' => r' = r ∧ rl_R em al u v) v v1) u v1) I ?_
  intro p k b ml sl rl f_resultStatus f_deliveredLength f_errorCount f_erasureCount a_powers a_logs a_generator a_message a_sent a_received a_flags a_delivered a_changes a_locator a_syndromes a_modified a_evaluator a_register a_previous a_saved a_located g_resultLength g_errorCount g_erasureCount b_message b_sent b_received b_flags b_delivered b_changes b_touched b_word b_weights b_syndromes b_places b_rows b_values b_exponents C mm ss rr ff dd R
  unfold wpX_alphaPower
  refine xp_power E C.2.1 v1.toInt rfl ?_
  exact yp_pow E v1.toInt rfl ⟨rfl, R⟩
theorem vc_put {F : Type} [Lean.Grind.Field F] [Lean.Grind.IsCharP F 2] {em : F → Int32} {al : F} (E : em_P em al) {u : SX} {v : SY} (I : rl_R em al u v) (v1 : Int32) : wpX_put (fun r u' => wpY_put (fun r' v' => r' = r ∧ rl_R em al u' v') v v1) u v1 := by
  refine rl_el (P := fun u v => wpX_put (fun r u' => wpY_put (fun r' v' => r' = r ∧ rl_R em al u' v') v v1) u v1) I ?_
  intro p k b ml sl rl f_resultStatus f_deliveredLength f_errorCount f_erasureCount a_powers a_logs a_generator a_message a_sent a_received a_flags a_delivered a_changes a_locator a_syndromes a_modified a_evaluator a_register a_previous a_saved a_located g_resultLength g_errorCount g_erasureCount b_message b_sent b_received b_flags b_delivered b_changes b_touched b_word b_weights b_syndromes b_places b_rows b_values b_exponents C mm ss rr ff dd R
  obtain ⟨⟨c1, c2, c3, c4, c5, c6, c7, c8⟩, T, G⟩ := C
  unfold wpX_put
  refine xp_isEl v1 (fun a0 a1 => br_f (by decide) ?_) (fun c => br_t rfl ?_)
  · obtain ⟨x, rfl⟩ := em_of E a0 a1
    have cl : (nI ml).toNatClampNeg = ml := nI_clamp (by omega)
    refine pk_lt ml k (fun q => ⟨pk_in ml 10 (by omega), nm_r (e' := upd a_message ml (em x)) (by rw [cl]) (nm_r (nI_1 ml) ?_)⟩) (fun q => br_f a0 (br_t a1 (br_f (nI_nlt q (by omega)) ⟨rfl, R⟩)))
    refine br_f a0 (br_t a1 (br_t (nI_lt q (by omega)) ⟨pk_in ml 10 (by omega), nm_r (e' := upd b_message ml (em x)) (by rw [cl]) (nm_r (nI_1 ml) ⟨rfl, rl_mk ⟨⟨c1, c2, c3, c4, c5, by omega, c7, c8⟩, T, G⟩ ?_ ss rr ff dd⟩)⟩))
    obtain ⟨w, hw⟩ := mm
    refine ⟨fun i => if i = ml then x else w i, fun i hi => ?_⟩
    by_cases e : i = ml
    · rw [e, pk_us, pk_us]
      show em x = em (if ml = ml then x else w ml) ∧ em x = em (if ml = ml then x else w ml)
      rw [if_pos rfl]
      exact ⟨rfl, rfl⟩
    · rw [pk_un e, pk_un e]
      show a_message i = em (if i = ml then x else w i) ∧ b_message i = em (if i = ml then x else w i)
      rw [if_neg e]
      exact hw i (by omega)
  · by_cases n : v1 < 0
    · exact br_t n ⟨rfl, R⟩
    · exact br_f n (br_f (c.resolve_left n) ⟨rfl, R⟩)
theorem vc_clearMessage {F : Type} [Lean.Grind.Field F] [Lean.Grind.IsCharP F 2] {em : F → Int32} {al : F} (E : em_P em al) {u : SX} {v : SY} (I : rl_R em al u v) : wpX_clearMessage (fun u' => wpY_clearMessage (fun v' => rl_R em al u' v') v) u := by
  refine rl_el (P := fun u v => wpX_clearMessage (fun u' => wpY_clearMessage (fun v' => rl_R em al u' v') v) u) I ?_
  intro p k b ml sl rl f_resultStatus f_deliveredLength f_errorCount f_erasureCount a_powers a_logs a_generator a_message a_sent a_received a_flags a_delivered a_changes a_locator a_syndromes a_modified a_evaluator a_register a_previous a_saved a_located g_resultLength g_errorCount g_erasureCount b_message b_sent b_received b_flags b_delivered b_changes b_touched b_word b_weights b_syndromes b_places b_rows b_values b_exponents C mm ss rr ff dd R
  obtain ⟨⟨c1, c2, c3, c4, c5, c6, c7, c8⟩, T, G⟩ := C
  show rl_R em al (nI p, nI k, nI b, nI 0, nI sl, nI rl, f_resultStatus, f_deliveredLength, f_errorCount, f_erasureCount, a_powers, a_logs, a_generator, a_message, a_sent, a_received, a_flags, a_delivered, a_changes, a_locator, a_syndromes, a_modified, a_evaluator, a_register, a_previous, a_saved, a_located) (nI p, nI k, nI b, nI 0, nI sl, nI rl, f_resultStatus, g_resultLength, g_errorCount, g_erasureCount, b_message, b_sent, b_received, b_flags, b_delivered, b_changes, b_touched, b_word, b_weights, b_syndromes, b_places, b_rows, b_values, b_exponents)
  exact rl_mk ⟨⟨c1, c2, c3, c4, c5, by omega, c7, c8⟩, T, G⟩ ⟨fun _ => 0, fun i hi => absurd hi (by omega)⟩ ss rr ff dd
theorem vc_disturb {F : Type} [Lean.Grind.Field F] [Lean.Grind.IsCharP F 2] {em : F → Int32} {al : F} (E : em_P em al) {u : SX} {v : SY} (I : rl_R em al u v) (v1 v2 : Int32) : wpX_disturb (fun r u' => wpY_disturb (fun r' v' => r' = r ∧ rl_R em al u' v') v v1 v2) u v1 v2 := by
  refine rl_el (P := fun u v => wpX_disturb (fun r u' => wpY_disturb (fun r' v' => r' = r ∧ rl_R em al u' v') v v1 v2) u v1 v2) I ?_
  intro p k b ml sl rl f_resultStatus f_deliveredLength f_errorCount f_erasureCount a_powers a_logs a_generator a_message a_sent a_received a_flags a_delivered a_changes a_locator a_syndromes a_modified a_evaluator a_register a_previous a_saved a_located g_resultLength g_errorCount g_erasureCount b_message b_sent b_received b_flags b_delivered b_changes b_touched b_word b_weights b_syndromes b_places b_rows b_values b_exponents C mm ss rr ff dd R
  have C0 := C
  obtain ⟨⟨c1, c2, c3, c4, c5, c6, c7, c8⟩, T, G⟩ := C
  by_cases n : v1 < 0
  · refine br_t n ?_
    by_cases z : nI rl = 0
    · exact br_t z ⟨rfl, R⟩
    · exact br_f z (br_t n ⟨rfl, R⟩)
  · refine br_f n ?_
    by_cases l : v1 < nI rl
    · refine br_t l ?_
      obtain ⟨i, hi, rfl⟩ := nI_of n
      have l' := (nI_ltI hi (by omega)).mp l
      have z : ¬ nI rl = 0 := nI_ne0 (by omega) (by omega)
      have cl : (nI i).toNatClampNeg = i := nI_clamp hi
      refine xp_isEl v2 (fun a0 a1 => br_f (by decide) ?_) (fun c => br_t rfl (br_f z (br_f n (br_t l ?_))))
      · obtain ⟨x, rfl⟩ := em_of E a0 a1
        obtain ⟨w, hw⟩ := rr
        refine ⟨pk_in i 18 (by omega), pk_in i 18 (by omega), nm_r (e' := upd a_received i (em (w i + x))) (by rw [cl, (hw i l').1, em_add E]) ⟨pk_in i 18 (by omega), ?_⟩⟩
        refine br_f z (br_f n (br_t l (br_f a0 (br_t a1 ⟨pk_in i 18 (by omega), pk_in i 18 (by omega), nm_r (e' := upd b_received i (em (w i + x))) (by rw [cl, (hw i l').2, em_add E]) ⟨pk_in i 18 (by omega), ?_, ?_⟩⟩))))
        · rw [cl, pk_us, pk_us]
        · refine rl_mk C0 mm ss ⟨fun j => if j = i then w i + x else w j, fun j hj => ?_⟩ ff dd
          by_cases e : j = i
          · rw [e, pk_us, pk_us]
            show em (w i + x) = em (if i = i then w i + x else w i) ∧ em (w i + x) = em (if i = i then w i + x else w i)
            rw [if_pos rfl]
            exact ⟨rfl, rfl⟩
          · rw [pk_un e, pk_un e]
            show a_received j = em (if j = i then w i + x else w j) ∧ b_received j = em (if j = i then w i + x else w j)
            rw [if_neg e]
            exact hw j hj
      · by_cases n2 : v2 < 0
        · exact br_t n2 ⟨rfl, R⟩
        · exact br_f n2 (br_f (c.resolve_left n2) ⟨rfl, R⟩)
    · refine br_f l ?_
      by_cases z : nI rl = 0
      · exact br_t z ⟨rfl, R⟩
      · exact br_f z (br_f n (br_f l ⟨rfl, R⟩))
theorem vc_flag {F : Type} [Lean.Grind.Field F] [Lean.Grind.IsCharP F 2] {em : F → Int32} {al : F} (E : em_P em al) {u : SX} {v : SY} (I : rl_R em al u v) (v1 v2 : Int32) : wpX_flag (fun r u' => wpY_flag (fun r' v' => r' = r ∧ rl_R em al u' v') v v1 (lw_bz v2)) u v1 (lw_bz v2) := by
  refine rl_el (P := fun u v => wpX_flag (fun r u' => wpY_flag (fun r' v' => r' = r ∧ rl_R em al u' v') v v1 (lw_bz v2)) u v1 (lw_bz v2)) I ?_
  intro p k b ml sl rl f_resultStatus f_deliveredLength f_errorCount f_erasureCount a_powers a_logs a_generator a_message a_sent a_received a_flags a_delivered a_changes a_locator a_syndromes a_modified a_evaluator a_register a_previous a_saved a_located g_resultLength g_errorCount g_erasureCount b_message b_sent b_received b_flags b_delivered b_changes b_touched b_word b_weights b_syndromes b_places b_rows b_values b_exponents C mm ss rr ff dd R
  have C0 := C
  obtain ⟨⟨c1, c2, c3, c4, c5, c6, c7, c8⟩, T, G⟩ := C
  by_cases n : v1 < 0
  · refine br_t n ?_
    by_cases z : nI rl = 0
    · exact br_t z ⟨rfl, R⟩
    · exact br_f z (br_t n ⟨rfl, R⟩)
  · refine br_f n ?_
    by_cases l : v1 < nI rl
    · refine br_t l ?_
      obtain ⟨i, hi, rfl⟩ := nI_of n
      have l' := (nI_ltI hi (by omega)).mp l
      have z : ¬ nI rl = 0 := nI_ne0 (by omega) (by omega)
      have cl : (nI i).toNatClampNeg = i := nI_clamp hi
      obtain ⟨f, hf⟩ := ff
      have key : ∀ o : Bool, (∀ j, j < rl → upd a_flags i (bI_b o) j = bI_b (if j = i then o else f j)) ∧ (∀ j, j < rl → upd b_flags i (bI_b o) j = bI_b (if j = i then o else f j)) := by
        intro o
        constructor
        · intro j hj
          by_cases e : j = i
          · rw [e, pk_us, if_pos rfl]
          · rw [pk_un e, if_neg e]; exact (hf j hj).1
        · intro j hj
          by_cases e : j = i
          · rw [e, pk_us, if_pos rfl]
          · rw [pk_un e, if_neg e]; exact (hf j hj).2
      rcases lw_bz_01 v2 with h | h
      · rw [h]
        refine ⟨pk_in i 18 (by omega), nm_r (e' := upd a_flags i (bI_b false)) (by rw [cl]; rfl) (xf_cnt c8 (key false).1 ?_)⟩
        refine br_f z (br_f n (br_t l (br_t rfl ⟨pk_in i 18 (by omega), nm_r (e' := upd b_flags i (bI_b false)) (by rw [cl]; rfl) (yf_cnt c8 (key false).2 ⟨rfl, rl_mk C0 mm ss rr ⟨fun j => if j = i then false else f j, fun j hj => ⟨(key false).1 j hj, (key false).2 j hj⟩⟩ dd⟩)⟩)))
      · rw [h]
        refine ⟨pk_in i 18 (by omega), nm_r (e' := upd a_flags i (bI_b true)) (by rw [cl]; rfl) (xf_cnt c8 (key true).1 ?_)⟩
        refine br_f z (br_f n (br_t l (br_f (by decide) ⟨pk_in i 18 (by omega), nm_r (e' := upd b_flags i (bI_b true)) (by rw [cl]; rfl) (yf_cnt c8 (key true).2 ⟨rfl, rl_mk C0 mm ss rr ⟨fun j => if j = i then true else f j, fun j hj => ⟨(key true).1 j hj, (key true).2 j hj⟩⟩ dd⟩)⟩)))
    · refine br_f l ?_
      by_cases z : nI rl = 0
      · exact br_t z ⟨rfl, R⟩
      · exact br_f z (br_f n (br_f l ⟨rfl, R⟩))
end
section
/-! the calls, one by one: the second part -/
section
variable {f_p f_k f_b f_messageLength f_sentLength f_receivedLength f_resultStatus f_deliveredLength f_errorCount f_erasureCount : Int32} {a_powers a_logs a_generator a_message a_sent a_received a_flags a_delivered a_changes a_locator a_syndromes a_modified a_evaluator a_register a_previous a_saved a_located : Nat → Int32}
theorem xh_del {post : Int32 → Prop} (h1 : (f_resultStatus = 1 ∨ f_resultStatus = 2) → post 1) (h0 : ¬ (f_resultStatus = 1 ∨ f_resultStatus = 2) → post 0) : wpX_hasDelivery post (f_p, f_k, f_b, f_messageLength, f_sentLength, f_receivedLength, f_resultStatus, f_deliveredLength, f_errorCount, f_erasureCount, a_powers, a_logs, a_generator, a_message, a_sent, a_received, a_flags, a_delivered, a_changes, a_locator, a_syndromes, a_modified, a_evaluator, a_register, a_previous, a_saved, a_located) :=
  br_c (fun a => h1 (Or.inl a)) (fun a => br_c (fun c => h1 (Or.inr c)) (fun c => h0 (fun q => q.elim a c)))
end
section
variable {f_p f_k f_b f_messageLength f_sentLength f_receivedLength f_state f_resultLength f_errorCount f_erasureCount : Int32} {a_message a_sent a_received a_flags a_delivered a_changes a_touched a_word a_weights a_syndromes a_places a_rows a_values a_exponents : Nat → Int32}
theorem yh_del {post : Int32 → Prop} (h1 : (f_state = 1 ∨ f_state = 2) → post 1) (h0 : ¬ (f_state = 1 ∨ f_state = 2) → post 0) : wpY_hasDelivered post (f_p, f_k, f_b, f_messageLength, f_sentLength, f_receivedLength, f_state, f_resultLength, f_errorCount, f_erasureCount, a_message, a_sent, a_received, a_flags, a_delivered, a_changes, a_touched, a_word, a_weights, a_syndromes, a_places, a_rows, a_values, a_exponents) :=
  br_c (fun a => h1 (Or.inl a)) (fun a => br_c (fun c => h1 (Or.inr c)) (fun c => h0 (fun q => q.elim a c)))
end
theorem vc_encode {F : Type} [Lean.Grind.Field F] [Lean.Grind.IsCharP F 2] {em : F → Int32} {al : F} (E : em_P em al) {u : SX} {v : SY} (I : rl_R em al u v) : wpX_encode (fun r u' => wpY_encode (fun r' v' => r' = r ∧ rl_R em al u' v') v) u := by
  refine rl_el (P := fun u v => wpX_encode (fun r u' => wpY_encode (fun r' v' => r' = r ∧ rl_R em al u' v') v) u) I ?_
  intro p k b ml sl rl f_resultStatus f_deliveredLength f_errorCount f_erasureCount a_powers a_logs a_generator a_message a_sent a_received a_flags a_delivered a_changes a_locator a_syndromes a_modified a_evaluator a_register a_previous a_saved a_located g_resultLength g_errorCount g_erasureCount b_message b_sent b_received b_flags b_delivered b_changes b_touched b_word b_weights b_syndromes b_places b_rows b_values b_exponents C mm ss rr ff dd R
  obtain ⟨⟨c1, c2, c3, c4, c5, c6, c7, c8⟩, T, G⟩ := C
  by_cases z : ml = 0
  · subst z
    exact br_t rfl (br_t rfl ⟨rfl, R⟩)
  · obtain ⟨w, hw⟩ := mm
    refine xn_enc E T (w := w) (by omega) (by omega) c2 (by omega) G (fun i hi => (hw i hi).1) (fun s hs => ?_)
    refine yn_enc E (w := w) (c := lf_c (gn_g (fun j => al ^ (b + j)) p) w p ml) (by omega) c2 (by omega) c5 (fun i hi => (hw i hi).2) (fun j hj => ?_) (fun s' wo wt sy pl ro va hs' => ⟨rfl, rl_mk ⟨⟨c1, c2, c3, c4, c5, c6, by omega, c8⟩, T, G⟩ ⟨w, hw⟩ ⟨_, fun i hi => ⟨hs i hi, hs' i hi⟩⟩ rr ff dd⟩)
    rw [← nd_syn E]
    exact cw_ok (by omega) (gn_top _ p) (gn_root (fun j => al ^ (b + j)) p hj) ml
theorem fl_0 {n : Nat} {a b : Nat → Int32} (hn : n ≤ 18) (ha : ∀ i, i < 18 → a i = 0) (hb : ∀ i, i < 18 → b i = 0) : fl_P n a b := ⟨fun _ => false, fun i hi => ⟨ha i (by omega), hb i (by omega)⟩⟩
theorem vc_transmit {F : Type} [Lean.Grind.Field F] [Lean.Grind.IsCharP F 2] {em : F → Int32} {al : F} (E : em_P em al) {u : SX} {v : SY} (I : rl_R em al u v) : wpX_transmit (fun r u' => wpY_transmit (fun r' v' => r' = r ∧ rl_R em al u' v') v) u := by
  refine rl_el (P := fun u v => wpX_transmit (fun r u' => wpY_transmit (fun r' v' => r' = r ∧ rl_R em al u' v') v) u) I ?_
  intro p k b ml sl rl f_resultStatus f_deliveredLength f_errorCount f_erasureCount a_powers a_logs a_generator a_message a_sent a_received a_flags a_delivered a_changes a_locator a_syndromes a_modified a_evaluator a_register a_previous a_saved a_located g_resultLength g_errorCount g_erasureCount b_message b_sent b_received b_flags b_delivered b_changes b_touched b_word b_weights b_syndromes b_places b_rows b_values b_exponents C mm ss rr ff dd R
  obtain ⟨⟨c1, c2, c3, c4, c5, c6, c7, c8⟩, T, G⟩ := C
  by_cases z : nI sl = 0
  · exact br_t z (br_t z ⟨rfl, R⟩)
  · refine br_f z ?_
    refine xr_transmit c7 (fun r f hr hf => br_f z ?_)
    refine yr_transmit (fun r' f' hr' hf' => ⟨rfl, rl_mk ⟨⟨c1, c2, c3, c4, c5, c6, c7, c7⟩, T, G⟩ mm ss ?_ (fl_0 c7 hf hf') dd⟩)
    obtain ⟨w, hw⟩ := ss
    exact ⟨w, fun i hi => ⟨by rw [hr i hi]; exact (hw i hi).1, by rw [hr' i (by omega)]; exact (hw i hi).2⟩⟩
theorem vc_load {F : Type} [Lean.Grind.Field F] [Lean.Grind.IsCharP F 2] {em : F → Int32} {al : F} (E : em_P em al) {u : SX} {v : SY} (I : rl_R em al u v) (v1 : Int32) : wpX_load (fun r u' => wpY_load (fun r' v' => r' = r ∧ rl_R em al u' v') v v1) u v1 := by
  refine rl_el (P := fun u v => wpX_load (fun r u' => wpY_load (fun r' v' => r' = r ∧ rl_R em al u' v') v v1) u v1) I ?_
  intro p k b ml sl rl f_resultStatus f_deliveredLength f_errorCount f_erasureCount a_powers a_logs a_generator a_message a_sent a_received a_flags a_delivered a_changes a_locator a_syndromes a_modified a_evaluator a_register a_previous a_saved a_located g_resultLength g_errorCount g_erasureCount b_message b_sent b_received b_flags b_delivered b_changes b_touched b_word b_weights b_syndromes b_places b_rows b_values b_exponents C mm ss rr ff dd R
  obtain ⟨⟨c1, c2, c3, c4, c5, c6, c7, c8⟩, T, G⟩ := C
  refine br_c (fun a => br_t a ⟨rfl, R⟩) (fun a => br_c (fun c => ?_) (fun c => br_f a (br_f c ⟨rfl, R⟩)))
  have n : ¬ v1 < 0 := fun q => a (by rw [nI_1]; exact Int32.lt_trans q (nI_lt (a := 0) (by omega) (by omega)))
  obtain ⟨j, hj, rfl⟩ := nI_of n
  have c' := c
  rw [nI_add, nI_leI hj (by omega)] at c'
  refine xr_load (by omega) (fun r f hr hf => br_f a (br_t c ?_))
  refine yr_load (fun r' f' hr' hf' => ⟨rfl, rl_mk ⟨⟨c1, c2, c3, c4, c5, c6, c7, by omega⟩, T, G⟩ mm ss ⟨fun _ => 0, fun i hi => ⟨by rw [hr i hi, em_0 E], by rw [hr' i (by omega), em_0 E]⟩⟩ (fl_0 (by omega) hf hf') dd⟩)
theorem vc_decode {F : Type} [Lean.Grind.Field F] [Lean.Grind.IsCharP F 2] {em : F → Int32} {al : F} (E : em_P em al) {u : SX} {v : SY} (I : rl_R em al u v) : wpX_decode (fun r u' => wpY_decode (fun r' v' => r' = r ∧ rl_R em al u' v') v) u := by
  refine rl_el (P := fun u v => wpX_decode (fun r u' => wpY_decode (fun r' v' => r' = r ∧ rl_R em al u' v') v) u) I ?_
  intro p k b ml sl rl f_resultStatus f_deliveredLength f_errorCount f_erasureCount a_powers a_logs a_generator a_message a_sent a_received a_flags a_delivered a_changes a_locator a_syndromes a_modified a_evaluator a_register a_previous a_saved a_located g_resultLength g_errorCount g_erasureCount b_message b_sent b_received b_flags b_delivered b_changes b_touched b_word b_weights b_syndromes b_places b_rows b_values b_exponents C mm ss rr ff dd R
  have C0 := C
  obtain ⟨⟨c1, c2, c3, c4, c5, c6, c7, c8⟩, T, G⟩ := C
  by_cases z : rl = 0
  · subst z
    exact br_t rfl (br_t rfl ⟨rfl, R⟩)
  · obtain ⟨w, hw⟩ := rr
    obtain ⟨f, hf⟩ := ff
    have no3 : ¬ ((3 : Int32) = 1 ∨ (3 : Int32) = 2) := by decide
    have no4 : ¬ ((4 : Int32) = 1 ∨ (4 : Int32) = 2) := by decide
    refine xd_dec E T (rc := w) (fl := f) c2 c5 (by omega) c8 (fun i hi => (hw i hi).1) (fun i hi => (hf i hi).1) (fun h4 => ?_) (fun hs e dl ch lo sy mo ev re pr sa lc hg hch hdl hlo => ?_) (fun hs hno dl ch lo sy mo ev re pr sa lc => ?_)
    · refine yd_dec E (rc := w) (fl := f) c2 c5 (by omega) c8 (fun i hi => (hw i hi).2) (fun i hi => (hf i hi).2) (fun _ => ⟨rfl, ?_⟩) (fun hs => absurd hs (by omega)) (fun hs => absurd hs (by omega))
      exact rl_mk C0 mm ss ⟨w, hw⟩ ⟨f, hf⟩ (fun q => absurd q no4)
    · refine yd_dec E (rc := w) (fl := f) c2 c5 (by omega) c8 (fun i hi => (hw i hi).2) (fun i hi => (hf i hi).2) (fun h4 => absurd h4 (by omega)) (fun _ wo wt sy' pl ro va st rl' ec er dl' ch' tc g => ?_) (fun _ hno => absurd ⟨e, hg⟩ hno)
      obtain ⟨e', hg', h1, h2, h3, h4, h5, h6, h7⟩ := g
      have eq := gd_u (nd_inj E c8) (fun i _ => nd_B0 E rl b i) hg' hg
      have cb : ∀ i, i < rl → ch_b f e' i = ch_b f e i := fun i hi => by unfold ch_b; rw [eq i hi]
      rw [st_congr eq] at h1
      subst h1
      refine ⟨rfl, rl_mk C0 mm ss ⟨w, hw⟩ ⟨f, hf⟩ (fun _ => ⟨rl, ct_c (ch_b f e) rl, ct_c f rl, fun i => w i + e i, e, fun i => f i || ch_b f e i, c8, ?_, ?_, ⟨rfl, h2⟩, ⟨rfl, by rw [h3, ct_congr cb]⟩, ⟨rfl, h4⟩, fun i hi => ⟨hdl i hi, by rw [h5 i hi, eq i hi]⟩, fun i hi => ⟨hch i hi, by rw [h6 i hi, eq i hi]⟩, fun i hi => by rw [h7 i hi, cb i hi], hlo⟩)⟩
      · rw [ct_or (fun i hi q => by unfold ch_b; rw [q]; rfl), Nat.add_comm]
      · have := hg.1
        omega
    · refine yd_dec E (rc := w) (fl := f) c2 c5 (by omega) c8 (fun i hi => (hw i hi).2) (fun i hi => (hf i hi).2) (fun h4 => absurd h4 (by omega)) (fun _ wo wt sy' pl ro va st rl' ec er dl' ch' tc g => ?_) (fun _ _ wo wt sy' pl ro va rl' ec er dl' ch' tc => ⟨rfl, rl_mk C0 mm ss ⟨w, hw⟩ ⟨f, hf⟩ (fun q => absurd q no3)⟩)
      obtain ⟨e', hg', _⟩ := g
      exact absurd ⟨e', hg'⟩ hno
theorem vc_status {F : Type} [Lean.Grind.Field F] [Lean.Grind.IsCharP F 2] {em : F → Int32} {al : F} (E : em_P em al) {u : SX} {v : SY} (I : rl_R em al u v) : wpX_status (fun r => wpY_status (fun r' => r' = r ∧ rl_R em al u v) v) u := by
  refine rl_el (P := fun u v => wpX_status (fun r => wpY_status (fun r' => r' = r ∧ rl_R em al u v) v) u) I ?_
  intro p k b ml sl rl f_resultStatus f_deliveredLength f_errorCount f_erasureCount a_powers a_logs a_generator a_message a_sent a_received a_flags a_delivered a_changes a_locator a_syndromes a_modified a_evaluator a_register a_previous a_saved a_located g_resultLength g_errorCount g_erasureCount b_message b_sent b_received b_flags b_delivered b_changes b_touched b_word b_weights b_syndromes b_places b_rows b_values b_exponents C mm ss rr ff dd R
  exact ⟨rfl, R⟩
theorem vc_errors {F : Type} [Lean.Grind.Field F] [Lean.Grind.IsCharP F 2] {em : F → Int32} {al : F} (E : em_P em al) {u : SX} {v : SY} (I : rl_R em al u v) : wpX_errors (fun r => wpY_errors (fun r' => r' = r ∧ rl_R em al u v) v) u := by
  refine rl_el (P := fun u v => wpX_errors (fun r => wpY_errors (fun r' => r' = r ∧ rl_R em al u v) v) u) I ?_
  intro p k b ml sl rl f_resultStatus f_deliveredLength f_errorCount f_erasureCount a_powers a_logs a_generator a_message a_sent a_received a_flags a_delivered a_changes a_locator a_syndromes a_modified a_evaluator a_register a_previous a_saved a_located g_resultLength g_errorCount g_erasureCount b_message b_sent b_received b_flags b_delivered b_changes b_touched b_word b_weights b_syndromes b_places b_rows b_values b_exponents C mm ss rr ff dd R
  unfold wpX_errors
  refine xh_del (fun q => br_f (by decide) ?_) (fun q => br_t rfl ?_)
  · unfold wpY_errors
    refine yh_del (fun _ => br_f (by decide) ⟨?_, R⟩) (fun w => absurd q w)
    obtain ⟨N, ec, er, d, c, tc, _, _, _, _, e1, e2, _⟩ := dd q
    first
    | exact e1.2.trans e1.1.symm
    | exact e2.2.trans e2.1.symm
  · unfold wpY_errors
    exact yh_del (fun w => absurd w q) (fun _ => br_t rfl ⟨rfl, R⟩)
theorem vc_erasures {F : Type} [Lean.Grind.Field F] [Lean.Grind.IsCharP F 2] {em : F → Int32} {al : F} (E : em_P em al) {u : SX} {v : SY} (I : rl_R em al u v) : wpX_erasures (fun r => wpY_erasures (fun r' => r' = r ∧ rl_R em al u v) v) u := by
  refine rl_el (P := fun u v => wpX_erasures (fun r => wpY_erasures (fun r' => r' = r ∧ rl_R em al u v) v) u) I ?_
  intro p k b ml sl rl f_resultStatus f_deliveredLength f_errorCount f_erasureCount a_powers a_logs a_generator a_message a_sent a_received a_flags a_delivered a_changes a_locator a_syndromes a_modified a_evaluator a_register a_previous a_saved a_located g_resultLength g_errorCount g_erasureCount b_message b_sent b_received b_flags b_delivered b_changes b_touched b_word b_weights b_syndromes b_places b_rows b_values b_exponents C mm ss rr ff dd R
  unfold wpX_erasures
  refine xh_del (fun q => br_f (by decide) ?_) (fun q => br_t rfl ?_)
  · unfold wpY_erasures
    refine yh_del (fun _ => br_f (by decide) ⟨?_, R⟩) (fun w => absurd q w)
    obtain ⟨N, ec, er, d, c, tc, _, _, _, _, e1, e2, _⟩ := dd q
    first
    | exact e1.2.trans e1.1.symm
    | exact e2.2.trans e2.1.symm
  · unfold wpY_erasures
    exact yh_del (fun w => absurd w q) (fun _ => br_t rfl ⟨rfl, R⟩)
theorem vc_missed {F : Type} [Lean.Grind.Field F] [Lean.Grind.IsCharP F 2] {em : F → Int32} {al : F} (E : em_P em al) {u : SX} {v : SY} (I : rl_R em al u v) : wpX_missed (fun r => wpY_missed (fun r' => r' = r ∧ rl_R em al u v) v) u := by
  refine rl_el (P := fun u v => wpX_missed (fun r => wpY_missed (fun r' => r' = r ∧ rl_R em al u v) v) u) I ?_
  intro p k b ml sl rl f_resultStatus f_deliveredLength f_errorCount f_erasureCount a_powers a_logs a_generator a_message a_sent a_received a_flags a_delivered a_changes a_locator a_syndromes a_modified a_evaluator a_register a_previous a_saved a_located g_resultLength g_errorCount g_erasureCount b_message b_sent b_received b_flags b_delivered b_changes b_touched b_word b_weights b_syndromes b_places b_rows b_values b_exponents C mm ss rr ff dd R
  obtain ⟨⟨c1, c2, c3, c4, c5, c6, c7, c8⟩, T, G⟩ := C
  unfold wpX_missed
  refine xh_del (fun q => br_f (by decide) ?_) (fun q => br_t rfl ?_)
  · obtain ⟨N, ec, er, d, c, tc, n1, _, _, ⟨e1, e2⟩, _, _, hd, _⟩ := dd q
    subst e1 e2
    have go : ∀ A : Prop, A → ((f_resultStatus = 1 ∨ f_resultStatus = 2) → A) := fun A a _ => a
    refine br_c (fun z => ?_) (fun z => br_c (fun s => ?_) (fun s => ?_))
    · unfold wpY_missed
      exact yh_del (fun _ => br_f (by decide) (br_t z ⟨rfl, R⟩)) (fun w => absurd q w)
    · have e := (nI_eq (by omega) (by omega)).mp s
      subst e
      obtain ⟨w, hw⟩ := ss
      refine xr_missed E c7 (fun i hi => (hw i hi).1) (fun i hi => (hd i hi).1) ?_
      unfold wpY_missed
      exact yh_del (fun _ => br_f (by decide) (br_f z (br_t rfl (yr_missed E c7 (fun i hi => (hw i hi).2) (fun i hi => (hd i hi).2) ⟨rfl, R⟩)))) (fun w => absurd q w)
    · unfold wpY_missed
      exact yh_del (fun _ => br_f (by decide) (br_f z (br_f s ⟨rfl, R⟩))) (fun w => absurd q w)
  · unfold wpY_missed
    exact yh_del (fun w => absurd w q) (fun _ => br_t rfl ⟨rfl, R⟩)
theorem vc_adopt {F : Type} [Lean.Grind.Field F] [Lean.Grind.IsCharP F 2] {em : F → Int32} {al : F} (E : em_P em al) {u : SX} {v : SY} (I : rl_R em al u v) : wpX_adopt (fun r u' => wpY_adopt (fun r' v' => r' = r ∧ rl_R em al u' v') v) u := by
  refine rl_el (P := fun u v => wpX_adopt (fun r u' => wpY_adopt (fun r' v' => r' = r ∧ rl_R em al u' v') v) u) I ?_
  intro p k b ml sl rl f_resultStatus f_deliveredLength f_errorCount f_erasureCount a_powers a_logs a_generator a_message a_sent a_received a_flags a_delivered a_changes a_locator a_syndromes a_modified a_evaluator a_register a_previous a_saved a_located g_resultLength g_errorCount g_erasureCount b_message b_sent b_received b_flags b_delivered b_changes b_touched b_word b_weights b_syndromes b_places b_rows b_values b_exponents C mm ss rr ff dd R
  obtain ⟨⟨c1, c2, c3, c4, c5, c6, c7, c8⟩, T, G⟩ := C
  unfold wpX_adopt
  refine xh_del (fun q => br_f (by decide) ?_) (fun q => br_t rfl ?_)
  · have D := dd q
    obtain ⟨N, ec, er, d, c, tc, n1, _, _, ⟨e1, e2⟩, _, _, hd, _⟩ := D
    subst e1 e2
    refine xr_adopt n1 (fun r f hr hf => ?_)
    unfold wpY_adopt
    refine yh_del (fun _ => br_f (by decide) ?_) (fun w => absurd q w)
    refine yr_adopt (fun r' f' hr' hf' => ⟨rfl, rl_mk ⟨⟨c1, c2, c3, c4, c5, c6, c7, n1⟩, T, G⟩ mm ss ⟨d, fun i hi => ⟨by rw [hr i hi]; exact (hd i hi).1, by rw [hr' i (by omega)]; exact (hd i hi).2⟩⟩ (fl_0 n1 hf hf') dd⟩)
  · unfold wpY_adopt
    exact yh_del (fun w => absurd w q) (fun _ => br_t rfl ⟨rfl, R⟩)
end
section
/-! the calls, one by one: lengths and cells -/
section
variable {f_p f_k f_b f_messageLength f_sentLength f_receivedLength f_resultStatus f_deliveredLength f_errorCount f_erasureCount : Int32} {a_powers a_logs a_generator a_message a_sent a_received a_flags a_delivered a_changes a_locator a_syndromes a_modified a_evaluator a_register a_previous a_saved a_located : Nat → Int32}
theorem xk_0 {post : Int32 → Prop} (h : post f_messageLength) : wpX_length post (f_p, f_k, f_b, f_messageLength, f_sentLength, f_receivedLength, f_resultStatus, f_deliveredLength, f_errorCount, f_erasureCount, a_powers, a_logs, a_generator, a_message, a_sent, a_received, a_flags, a_delivered, a_changes, a_locator, a_syndromes, a_modified, a_evaluator, a_register, a_previous, a_saved, a_located) (nI 0) := by
  refine br_f (by decide) (br_f (by decide) ?_)
  iterate 0 (refine br_f (by decide) ?_)
  exact br_t (by decide) h
theorem xk_1 {post : Int32 → Prop} (h : post f_sentLength) : wpX_length post (f_p, f_k, f_b, f_messageLength, f_sentLength, f_receivedLength, f_resultStatus, f_deliveredLength, f_errorCount, f_erasureCount, a_powers, a_logs, a_generator, a_message, a_sent, a_received, a_flags, a_delivered, a_changes, a_locator, a_syndromes, a_modified, a_evaluator, a_register, a_previous, a_saved, a_located) (nI 1) := by
  refine br_f (by decide) (br_f (by decide) ?_)
  iterate 1 (refine br_f (by decide) ?_)
  exact br_t (by decide) h
theorem xk_2 {post : Int32 → Prop} (h : post f_receivedLength) : wpX_length post (f_p, f_k, f_b, f_messageLength, f_sentLength, f_receivedLength, f_resultStatus, f_deliveredLength, f_errorCount, f_erasureCount, a_powers, a_logs, a_generator, a_message, a_sent, a_received, a_flags, a_delivered, a_changes, a_locator, a_syndromes, a_modified, a_evaluator, a_register, a_previous, a_saved, a_located) (nI 2) := by
  refine br_f (by decide) (br_f (by decide) ?_)
  iterate 2 (refine br_f (by decide) ?_)
  exact br_t (by decide) h
theorem xk_3 {post : Int32 → Prop} (h : post f_receivedLength) : wpX_length post (f_p, f_k, f_b, f_messageLength, f_sentLength, f_receivedLength, f_resultStatus, f_deliveredLength, f_errorCount, f_erasureCount, a_powers, a_logs, a_generator, a_message, a_sent, a_received, a_flags, a_delivered, a_changes, a_locator, a_syndromes, a_modified, a_evaluator, a_register, a_previous, a_saved, a_located) (nI 3) := by
  refine br_f (by decide) (br_f (by decide) ?_)
  iterate 3 (refine br_f (by decide) ?_)
  exact br_t (by decide) h
theorem xk_8 {post : Int32 → Prop} (h : post (f_p+1)) : wpX_length post (f_p, f_k, f_b, f_messageLength, f_sentLength, f_receivedLength, f_resultStatus, f_deliveredLength, f_errorCount, f_erasureCount, a_powers, a_logs, a_generator, a_message, a_sent, a_received, a_flags, a_delivered, a_changes, a_locator, a_syndromes, a_modified, a_evaluator, a_register, a_previous, a_saved, a_located) (nI 8) := by
  refine br_f (by decide) (br_f (by decide) ?_)
  iterate 8 (refine br_f (by decide) ?_)
  exact br_t (by decide) h
theorem xk_4 {post : Int32 → Prop} {p rl : Nat} (hr : rl ≤ 18) (h0 : rl = 0 → post 0) (h1 : 0 < rl → post (nI p)) : wpX_length post (nI p, f_k, f_b, f_messageLength, f_sentLength, nI rl, f_resultStatus, f_deliveredLength, f_errorCount, f_erasureCount, a_powers, a_logs, a_generator, a_message, a_sent, a_received, a_flags, a_delivered, a_changes, a_locator, a_syndromes, a_modified, a_evaluator, a_register, a_previous, a_saved, a_located) (nI 4) := by
  refine br_f (by decide) (br_f (by decide) ?_)
  iterate 4 (refine br_f (by decide) ?_)
  refine br_t (by decide) ?_
  exact pk_le rl 0 (fun q => h0 (by omega)) (fun q => h1 q)
theorem xk_5 {post : Int32 → Prop} (h1 : (f_resultStatus = 1 ∨ f_resultStatus = 2) → post f_deliveredLength) (h0 : ¬ (f_resultStatus = 1 ∨ f_resultStatus = 2) → post 0) : wpX_length post (f_p, f_k, f_b, f_messageLength, f_sentLength, f_receivedLength, f_resultStatus, f_deliveredLength, f_errorCount, f_erasureCount, a_powers, a_logs, a_generator, a_message, a_sent, a_received, a_flags, a_delivered, a_changes, a_locator, a_syndromes, a_modified, a_evaluator, a_register, a_previous, a_saved, a_located) (nI 5) := by
  refine br_f (by decide) (br_f (by decide) ?_)
  iterate 5 (refine br_f (by decide) ?_)
  refine br_t (by decide) ?_
  exact xh_del (fun q => br_f (by decide) (h1 q)) (fun q => br_t rfl (h0 q))
theorem xk_6 {post : Int32 → Prop} (h1 : (f_resultStatus = 1 ∨ f_resultStatus = 2) → post f_deliveredLength) (h0 : ¬ (f_resultStatus = 1 ∨ f_resultStatus = 2) → post 0) : wpX_length post (f_p, f_k, f_b, f_messageLength, f_sentLength, f_receivedLength, f_resultStatus, f_deliveredLength, f_errorCount, f_erasureCount, a_powers, a_logs, a_generator, a_message, a_sent, a_received, a_flags, a_delivered, a_changes, a_locator, a_syndromes, a_modified, a_evaluator, a_register, a_previous, a_saved, a_located) (nI 6) := by
  refine br_f (by decide) (br_f (by decide) ?_)
  iterate 6 (refine br_f (by decide) ?_)
  refine br_t (by decide) ?_
  exact xh_del (fun q => br_f (by decide) (h1 q)) (fun q => br_t rfl (h0 q))
theorem xk_7 {post : Int32 → Prop} (h1 : (f_resultStatus = 1 ∨ f_resultStatus = 2) → post (f_errorCount+f_erasureCount+1)) (h0 : ¬ (f_resultStatus = 1 ∨ f_resultStatus = 2) → post 0) : wpX_length post (f_p, f_k, f_b, f_messageLength, f_sentLength, f_receivedLength, f_resultStatus, f_deliveredLength, f_errorCount, f_erasureCount, a_powers, a_logs, a_generator, a_message, a_sent, a_received, a_flags, a_delivered, a_changes, a_locator, a_syndromes, a_modified, a_evaluator, a_register, a_previous, a_saved, a_located) (nI 7) := by
  refine br_f (by decide) (br_f (by decide) ?_)
  iterate 7 (refine br_f (by decide) ?_)
  refine br_t (by decide) ?_
  exact xh_del (fun q => br_f (by decide) (h1 q)) (fun q => br_t rfl (h0 q))
end
section
variable {f_p f_k f_b f_messageLength f_sentLength f_receivedLength f_state f_resultLength f_errorCount f_erasureCount : Int32} {a_message a_sent a_received a_flags a_delivered a_changes a_touched a_word a_weights a_syndromes a_places a_rows a_values a_exponents : Nat → Int32}
theorem yk_0 {post : Int32 → Prop} (h : post f_messageLength) : wpY_length post (f_p, f_k, f_b, f_messageLength, f_sentLength, f_receivedLength, f_state, f_resultLength, f_errorCount, f_erasureCount, a_message, a_sent, a_received, a_flags, a_delivered, a_changes, a_touched, a_word, a_weights, a_syndromes, a_places, a_rows, a_values, a_exponents) (nI 0) := by
  unfold wpY_length
  iterate 0 (refine br_f (by decide) ?_)
  exact br_t (by decide) h
theorem yk_1 {post : Int32 → Prop} (h : post f_sentLength) : wpY_length post (f_p, f_k, f_b, f_messageLength, f_sentLength, f_receivedLength, f_state, f_resultLength, f_errorCount, f_erasureCount, a_message, a_sent, a_received, a_flags, a_delivered, a_changes, a_touched, a_word, a_weights, a_syndromes, a_places, a_rows, a_values, a_exponents) (nI 1) := by
  unfold wpY_length
  iterate 1 (refine br_f (by decide) ?_)
  exact br_t (by decide) h
theorem yk_2 {post : Int32 → Prop} (h : post f_receivedLength) : wpY_length post (f_p, f_k, f_b, f_messageLength, f_sentLength, f_receivedLength, f_state, f_resultLength, f_errorCount, f_erasureCount, a_message, a_sent, a_received, a_flags, a_delivered, a_changes, a_touched, a_word, a_weights, a_syndromes, a_places, a_rows, a_values, a_exponents) (nI 2) := by
  unfold wpY_length
  iterate 2 (refine br_f (by decide) ?_)
  exact br_t (by decide) h
theorem yk_3 {post : Int32 → Prop} (h : post f_receivedLength) : wpY_length post (f_p, f_k, f_b, f_messageLength, f_sentLength, f_receivedLength, f_state, f_resultLength, f_errorCount, f_erasureCount, a_message, a_sent, a_received, a_flags, a_delivered, a_changes, a_touched, a_word, a_weights, a_syndromes, a_places, a_rows, a_values, a_exponents) (nI 3) := by
  unfold wpY_length
  iterate 3 (refine br_f (by decide) ?_)
  exact br_t (by decide) h
theorem yk_8 {post : Int32 → Prop} (h : post (f_p+1)) : wpY_length post (f_p, f_k, f_b, f_messageLength, f_sentLength, f_receivedLength, f_state, f_resultLength, f_errorCount, f_erasureCount, a_message, a_sent, a_received, a_flags, a_delivered, a_changes, a_touched, a_word, a_weights, a_syndromes, a_places, a_rows, a_values, a_exponents) (nI 8) := by
  unfold wpY_length
  iterate 8 (refine br_f (by decide) ?_)
  exact br_t (by decide) h
theorem yk_4 {post : Int32 → Prop} {p rl : Nat} (hr : rl ≤ 18) (h0 : rl = 0 → post 0) (h1 : 0 < rl → post (nI p)) : wpY_length post (nI p, f_k, f_b, f_messageLength, f_sentLength, nI rl, f_state, f_resultLength, f_errorCount, f_erasureCount, a_message, a_sent, a_received, a_flags, a_delivered, a_changes, a_touched, a_word, a_weights, a_syndromes, a_places, a_rows, a_values, a_exponents) (nI 4) := by
  unfold wpY_length
  iterate 4 (refine br_f (by decide) ?_)
  refine br_t (by decide) ?_
  exact pk_le rl 0 (fun q => h0 (by omega)) (fun q => h1 q)
theorem yk_5 {post : Int32 → Prop} (h1 : (f_state = 1 ∨ f_state = 2) → post f_resultLength) (h0 : ¬ (f_state = 1 ∨ f_state = 2) → post 0) : wpY_length post (f_p, f_k, f_b, f_messageLength, f_sentLength, f_receivedLength, f_state, f_resultLength, f_errorCount, f_erasureCount, a_message, a_sent, a_received, a_flags, a_delivered, a_changes, a_touched, a_word, a_weights, a_syndromes, a_places, a_rows, a_values, a_exponents) (nI 5) := by
  unfold wpY_length
  iterate 5 (refine br_f (by decide) ?_)
  refine br_t (by decide) ?_
  exact yh_del (fun q => br_f (by decide) (h1 q)) (fun q => br_t rfl (h0 q))
theorem yk_6 {post : Int32 → Prop} (h1 : (f_state = 1 ∨ f_state = 2) → post f_resultLength) (h0 : ¬ (f_state = 1 ∨ f_state = 2) → post 0) : wpY_length post (f_p, f_k, f_b, f_messageLength, f_sentLength, f_receivedLength, f_state, f_resultLength, f_errorCount, f_erasureCount, a_message, a_sent, a_received, a_flags, a_delivered, a_changes, a_touched, a_word, a_weights, a_syndromes, a_places, a_rows, a_values, a_exponents) (nI 6) := by
  unfold wpY_length
  iterate 6 (refine br_f (by decide) ?_)
  refine br_t (by decide) ?_
  exact yh_del (fun q => br_f (by decide) (h1 q)) (fun q => br_t rfl (h0 q))
theorem yk_7 {post : Int32 → Prop} (h1 : (f_state = 1 ∨ f_state = 2) → post (f_errorCount+f_erasureCount+1)) (h0 : ¬ (f_state = 1 ∨ f_state = 2) → post 0) : wpY_length post (f_p, f_k, f_b, f_messageLength, f_sentLength, f_receivedLength, f_state, f_resultLength, f_errorCount, f_erasureCount, a_message, a_sent, a_received, a_flags, a_delivered, a_changes, a_touched, a_word, a_weights, a_syndromes, a_places, a_rows, a_values, a_exponents) (nI 7) := by
  unfold wpY_length
  iterate 7 (refine br_f (by decide) ?_)
  refine br_t (by decide) ?_
  exact yh_del (fun q => br_f (by decide) (h1 q)) (fun q => br_t rfl (h0 q))
theorem yk_no {post : Int32 → Prop} {x : Int32} (h : x < 0 ∨ 8 < x) (q : post (-1)) : wpY_length post (f_p, f_k, f_b, f_messageLength, f_sentLength, f_receivedLength, f_state, f_resultLength, f_errorCount, f_erasureCount, a_message, a_sent, a_received, a_flags, a_delivered, a_changes, a_touched, a_word, a_weights, a_syndromes, a_places, a_rows, a_values, a_exponents) x := by
  have ne : ∀ y : Int32, ¬ (y < 0 ∨ 8 < y) → ¬ x = y := fun y hy e => hy (e ▸ h)
  unfold wpY_length
  exact br_f (ne 0 (by decide)) (br_f (ne 1 (by decide)) (br_f (ne 2 (by decide)) (br_f (ne 3 (by decide)) (br_f (ne 4 (by decide)) (br_f (ne 5 (by decide)) (br_f (ne 6 (by decide)) (br_f (ne 7 (by decide)) (br_f (ne 8 (by decide)) q))))))))
end
theorem kd_9 {x : Int32} (h0 : ¬ x < 0) (h8 : ¬ 8 < x) : x = nI 0 ∨ x = nI 1 ∨ x = nI 2 ∨ x = nI 3 ∨ x = nI 4 ∨ x = nI 5 ∨ x = nI 6 ∨ x = nI 7 ∨ x = nI 8 := by
  obtain ⟨j, hj, rfl⟩ := nI_of2 (n := 8) (show (8 : Int32).toInt = (8 : Nat) by decide) h0 (Int32.not_lt.mp h8)
  rcases (show j = 0 ∨ j = 1 ∨ j = 2 ∨ j = 3 ∨ j = 4 ∨ j = 5 ∨ j = 6 ∨ j = 7 ∨ j = 8 by omega) with h | h | h | h | h | h | h | h | h <;> subst h <;> simp
theorem vc_length {F : Type} [Lean.Grind.Field F] [Lean.Grind.IsCharP F 2] {em : F → Int32} {al : F} (E : em_P em al) {u : SX} {v : SY} (I : rl_R em al u v) (v1 : Int32) : wpX_length (fun r => wpY_length (fun r' => r' = r ∧ rl_R em al u v) v v1) u v1 := by
  refine rl_el (P := fun u v => wpX_length (fun r => wpY_length (fun r' => r' = r ∧ rl_R em al u v) v v1) u v1) I ?_
  intro p k b ml sl rl f_resultStatus f_deliveredLength f_errorCount f_erasureCount a_powers a_logs a_generator a_message a_sent a_received a_flags a_delivered a_changes a_locator a_syndromes a_modified a_evaluator a_register a_previous a_saved a_located g_resultLength g_errorCount g_erasureCount b_message b_sent b_received b_flags b_delivered b_changes b_touched b_word b_weights b_syndromes b_places b_rows b_values b_exponents C mm ss rr ff dd R
  obtain ⟨⟨c1, c2, c3, c4, c5, c6, c7, c8⟩, T, G⟩ := C
  by_cases n : v1 < 0
  · exact br_t n (yk_no (Or.inl n) ⟨rfl, R⟩)
  · by_cases n8 : 8 < v1
    · exact br_f n (br_t n8 (yk_no (Or.inr n8) ⟨rfl, R⟩))
    · rcases kd_9 n n8 with h | h | h | h | h | h | h | h | h <;> subst h
      · exact xk_0 (yk_0 ⟨rfl, R⟩)
      · exact xk_1 (yk_1 ⟨rfl, R⟩)
      · exact xk_2 (yk_2 ⟨rfl, R⟩)
      · exact xk_3 (yk_3 ⟨rfl, R⟩)
      · exact xk_4 c8 (fun z => yk_4 c8 (fun _ => ⟨rfl, R⟩) (fun w => absurd z (by omega))) (fun z => yk_4 c8 (fun w => absurd z (by omega)) (fun _ => ⟨rfl, R⟩))
      · refine xk_5 (fun q => yk_5 (fun _ => ⟨?_, R⟩) (fun w => absurd q w)) (fun q => yk_5 (fun w => absurd w q) (fun _ => ⟨rfl, R⟩))
        obtain ⟨N, ec, er, d, c, tc, _, _, _, e1, e2, e3, _⟩ := dd q
        exact e1.2.trans e1.1.symm
      · refine xk_6 (fun q => yk_6 (fun _ => ⟨?_, R⟩) (fun w => absurd q w)) (fun q => yk_6 (fun w => absurd w q) (fun _ => ⟨rfl, R⟩))
        obtain ⟨N, ec, er, d, c, tc, _, _, _, e1, e2, e3, _⟩ := dd q
        exact e1.2.trans e1.1.symm
      · refine xk_7 (fun q => yk_7 (fun _ => ⟨?_, R⟩) (fun w => absurd q w)) (fun q => yk_7 (fun w => absurd w q) (fun _ => ⟨rfl, R⟩))
        obtain ⟨N, ec, er, d, c, tc, _, _, _, e1, e2, e3, _⟩ := dd q
        rw [e2.1, e2.2, e3.1, e3.2]
      · exact xk_8 (yk_8 ⟨rfl, R⟩)
theorem vc_cell0 {F : Type} [Lean.Grind.Field F] [Lean.Grind.IsCharP F 2] {em : F → Int32} {al : F} (E : em_P em al) {u : SX} {v : SY} (I : rl_R em al u v) (v2 : Int32) : wpX_cell (fun r => wpY_cell (fun r' v' => r' = r ∧ rl_R em al u v') v (nI 0) v2) u (nI 0) v2 := by
  refine rl_el (P := fun u v => wpX_cell (fun r => wpY_cell (fun r' v' => r' = r ∧ rl_R em al u v') v (nI 0) v2) u (nI 0) v2) I ?_
  intro p k b ml sl rl f_resultStatus f_deliveredLength f_errorCount f_erasureCount a_powers a_logs a_generator a_message a_sent a_received a_flags a_delivered a_changes a_locator a_syndromes a_modified a_evaluator a_register a_previous a_saved a_located g_resultLength g_errorCount g_erasureCount b_message b_sent b_received b_flags b_delivered b_changes b_touched b_word b_weights b_syndromes b_places b_rows b_values b_exponents C mm ss rr ff dd R
  obtain ⟨⟨c1, c2, c3, c4, c5, c6, c7, c8⟩, T, G⟩ := C
  unfold wpX_cell
  refine xk_0 ?_
  by_cases n : v2 < 0
  · refine br_t n (br_f (by decide) (br_t (by decide) ?_))
    exact yk_0 (br_t n ⟨rfl, R⟩)
  · refine br_f n ?_
    by_cases l : v2 < nI ml
    · refine br_t l ?_
      obtain ⟨i, hi, rfl⟩ := nI_of n
      have l' := (nI_ltI hi (by omega)).mp l
      refine br_f (by decide) (br_f (by decide) ?_)
      iterate 0 (refine br_f (by decide) ?_)
      refine br_t (by decide) ⟨pk_in i 10 (by omega), ?_⟩
      refine br_f (by decide) (br_t (by decide) ?_)
      refine yk_0 (br_f n (br_t l ?_))
      iterate 0 (refine br_f (by decide) ?_)
      refine br_t (by decide) ⟨pk_in i 10 (by omega), ?_, R⟩
      obtain ⟨w, hw⟩ := mm
      rw [nI_clamp hi, (hw i l').1, (hw i l').2]
    · refine br_f l (br_f (by decide) (br_t (by decide) ?_))
      exact yk_0 (br_f n (br_f l ⟨rfl, R⟩))
theorem vc_cell1 {F : Type} [Lean.Grind.Field F] [Lean.Grind.IsCharP F 2] {em : F → Int32} {al : F} (E : em_P em al) {u : SX} {v : SY} (I : rl_R em al u v) (v2 : Int32) : wpX_cell (fun r => wpY_cell (fun r' v' => r' = r ∧ rl_R em al u v') v (nI 1) v2) u (nI 1) v2 := by
  refine rl_el (P := fun u v => wpX_cell (fun r => wpY_cell (fun r' v' => r' = r ∧ rl_R em al u v') v (nI 1) v2) u (nI 1) v2) I ?_
  intro p k b ml sl rl f_resultStatus f_deliveredLength f_errorCount f_erasureCount a_powers a_logs a_generator a_message a_sent a_received a_flags a_delivered a_changes a_locator a_syndromes a_modified a_evaluator a_register a_previous a_saved a_located g_resultLength g_errorCount g_erasureCount b_message b_sent b_received b_flags b_delivered b_changes b_touched b_word b_weights b_syndromes b_places b_rows b_values b_exponents C mm ss rr ff dd R
  obtain ⟨⟨c1, c2, c3, c4, c5, c6, c7, c8⟩, T, G⟩ := C
  unfold wpX_cell
  refine xk_1 ?_
  by_cases n : v2 < 0
  · refine br_t n (br_f (by decide) (br_t (by decide) ?_))
    exact yk_1 (br_t n ⟨rfl, R⟩)
  · refine br_f n ?_
    by_cases l : v2 < nI sl
    · refine br_t l ?_
      obtain ⟨i, hi, rfl⟩ := nI_of n
      have l' := (nI_ltI hi (by omega)).mp l
      refine br_f (by decide) (br_f (by decide) ?_)
      iterate 1 (refine br_f (by decide) ?_)
      refine br_t (by decide) ⟨pk_in i 18 (by omega), ?_⟩
      refine br_f (by decide) (br_t (by decide) ?_)
      refine yk_1 (br_f n (br_t l ?_))
      iterate 1 (refine br_f (by decide) ?_)
      refine br_t (by decide) ⟨pk_in i 18 (by omega), ?_, R⟩
      obtain ⟨w, hw⟩ := ss
      rw [nI_clamp hi, (hw i l').1, (hw i l').2]
    · refine br_f l (br_f (by decide) (br_t (by decide) ?_))
      exact yk_1 (br_f n (br_f l ⟨rfl, R⟩))
theorem vc_cell2 {F : Type} [Lean.Grind.Field F] [Lean.Grind.IsCharP F 2] {em : F → Int32} {al : F} (E : em_P em al) {u : SX} {v : SY} (I : rl_R em al u v) (v2 : Int32) : wpX_cell (fun r => wpY_cell (fun r' v' => r' = r ∧ rl_R em al u v') v (nI 2) v2) u (nI 2) v2 := by
  refine rl_el (P := fun u v => wpX_cell (fun r => wpY_cell (fun r' v' => r' = r ∧ rl_R em al u v') v (nI 2) v2) u (nI 2) v2) I ?_
  intro p k b ml sl rl f_resultStatus f_deliveredLength f_errorCount f_erasureCount a_powers a_logs a_generator a_message a_sent a_received a_flags a_delivered a_changes a_locator a_syndromes a_modified a_evaluator a_register a_previous a_saved a_located g_resultLength g_errorCount g_erasureCount b_message b_sent b_received b_flags b_delivered b_changes b_touched b_word b_weights b_syndromes b_places b_rows b_values b_exponents C mm ss rr ff dd R
  obtain ⟨⟨c1, c2, c3, c4, c5, c6, c7, c8⟩, T, G⟩ := C
  unfold wpX_cell
  refine xk_2 ?_
  by_cases n : v2 < 0
  · refine br_t n (br_f (by decide) (br_t (by decide) ?_))
    exact yk_2 (br_t n ⟨rfl, R⟩)
  · refine br_f n ?_
    by_cases l : v2 < nI rl
    · refine br_t l ?_
      obtain ⟨i, hi, rfl⟩ := nI_of n
      have l' := (nI_ltI hi (by omega)).mp l
      refine br_f (by decide) (br_f (by decide) ?_)
      iterate 2 (refine br_f (by decide) ?_)
      refine br_t (by decide) ⟨pk_in i 18 (by omega), ?_⟩
      refine br_f (by decide) (br_t (by decide) ?_)
      refine yk_2 (br_f n (br_t l ?_))
      iterate 2 (refine br_f (by decide) ?_)
      refine br_t (by decide) ⟨pk_in i 18 (by omega), ?_, R⟩
      obtain ⟨w, hw⟩ := rr
      rw [nI_clamp hi, (hw i l').1, (hw i l').2]
    · refine br_f l (br_f (by decide) (br_t (by decide) ?_))
      exact yk_2 (br_f n (br_f l ⟨rfl, R⟩))
theorem vc_cell3 {F : Type} [Lean.Grind.Field F] [Lean.Grind.IsCharP F 2] {em : F → Int32} {al : F} (E : em_P em al) {u : SX} {v : SY} (I : rl_R em al u v) (v2 : Int32) : wpX_cell (fun r => wpY_cell (fun r' v' => r' = r ∧ rl_R em al u v') v (nI 3) v2) u (nI 3) v2 := by
  refine rl_el (P := fun u v => wpX_cell (fun r => wpY_cell (fun r' v' => r' = r ∧ rl_R em al u v') v (nI 3) v2) u (nI 3) v2) I ?_
  intro p k b ml sl rl f_resultStatus f_deliveredLength f_errorCount f_erasureCount a_powers a_logs a_generator a_message a_sent a_received a_flags a_delivered a_changes a_locator a_syndromes a_modified a_evaluator a_register a_previous a_saved a_located g_resultLength g_errorCount g_erasureCount b_message b_sent b_received b_flags b_delivered b_changes b_touched b_word b_weights b_syndromes b_places b_rows b_values b_exponents C mm ss rr ff dd R
  obtain ⟨⟨c1, c2, c3, c4, c5, c6, c7, c8⟩, T, G⟩ := C
  unfold wpX_cell
  refine xk_3 ?_
  by_cases n : v2 < 0
  · refine br_t n (br_f (by decide) (br_t (by decide) ?_))
    exact yk_3 (br_t n ⟨rfl, R⟩)
  · refine br_f n ?_
    by_cases l : v2 < nI rl
    · refine br_t l ?_
      obtain ⟨i, hi, rfl⟩ := nI_of n
      have l' := (nI_ltI hi (by omega)).mp l
      have cl : (nI i).toNatClampNeg = i := nI_clamp hi
      obtain ⟨f, hf⟩ := ff
      have go : ∀ x : Int32, x = bI_b (f i) → wpY_cell (fun r' v' => r' = x ∧ rl_R em al (nI p, nI k, nI b, nI ml, nI sl, nI rl, f_resultStatus, f_deliveredLength, f_errorCount, f_erasureCount, a_powers, a_logs, a_generator, a_message, a_sent, a_received, a_flags, a_delivered, a_changes, a_locator, a_syndromes, a_modified, a_evaluator, a_register, a_previous, a_saved, a_located) v') (nI p, nI k, nI b, nI ml, nI sl, nI rl, f_resultStatus, g_resultLength, g_errorCount, g_erasureCount, b_message, b_sent, b_received, b_flags, b_delivered, b_changes, b_touched, b_word, b_weights, b_syndromes, b_places, b_rows, b_values, b_exponents) (nI 3) (nI i) := by
        intro x hx
        refine br_f (by decide) (br_t (by decide) ?_)
        refine yk_3 (br_f n (br_t l ?_))
        iterate 3 (refine br_f (by decide) ?_)
        refine br_t (by decide) ⟨pk_in i 18 (by omega), ?_, R⟩
        rw [cl, (hf i l').2, hx]
      refine br_f (by decide) (br_f (by decide) ?_)
      iterate 3 (refine br_f (by decide) ?_)
      refine br_t (by decide) ⟨pk_in i 18 (by omega), ?_⟩
      rw [cl]
      exact bI_br (hf i l').1 (fun q => go 0 (bI_f q).symm) (fun q => go 1 (bI_t q).symm)
    · refine br_f l (br_f (by decide) (br_t (by decide) ?_))
      exact yk_3 (br_f n (br_f l ⟨rfl, R⟩))
theorem vc_cell4 {F : Type} [Lean.Grind.Field F] [Lean.Grind.IsCharP F 2] {em : F → Int32} {al : F} (E : em_P em al) {u : SX} {v : SY} (I : rl_R em al u v) (v2 : Int32) : wpX_cell (fun r => wpY_cell (fun r' v' => r' = r ∧ rl_R em al u v') v (nI 4) v2) u (nI 4) v2 := by
  refine rl_el (P := fun u v => wpX_cell (fun r => wpY_cell (fun r' v' => r' = r ∧ rl_R em al u v') v (nI 4) v2) u (nI 4) v2) I ?_
  intro p k b ml sl rl f_resultStatus f_deliveredLength f_errorCount f_erasureCount a_powers a_logs a_generator a_message a_sent a_received a_flags a_delivered a_changes a_locator a_syndromes a_modified a_evaluator a_register a_previous a_saved a_located g_resultLength g_errorCount g_erasureCount b_message b_sent b_received b_flags b_delivered b_changes b_touched b_word b_weights b_syndromes b_places b_rows b_values b_exponents C mm ss rr ff dd R
  have C0 := C
  obtain ⟨⟨c1, c2, c3, c4, c5, c6, c7, c8⟩, T, G⟩ := C
  unfold wpX_cell
  refine xk_4 c8 (fun z => ?_) (fun z => ?_)
  · by_cases n : v2 < 0
    · refine br_t n (br_f (by decide) (br_t (by decide) ?_))
      exact yk_4 c8 (fun _ => br_t n ⟨rfl, R⟩) (fun w => absurd z (by omega))
    · refine br_f n (br_f n (br_f (by decide) (br_t (by decide) ?_)))
      exact yk_4 c8 (fun _ => br_f n (br_f n ⟨rfl, R⟩)) (fun w => absurd z (by omega))
  · by_cases n : v2 < 0
    · refine br_t n (br_f (by decide) (br_t (by decide) ?_))
      exact yk_4 c8 (fun w => absurd z (by omega)) (fun _ => br_t n ⟨rfl, R⟩)
    · refine br_f n ?_
      by_cases l : v2 < nI p
      · refine br_t l ?_
        obtain ⟨i, hi, rfl⟩ := nI_of n
        have l' := (nI_ltI hi (by omega)).mp l
        obtain ⟨w, hw⟩ := rr
        refine br_f (by decide) (br_f (by decide) ?_)
        iterate 4 (refine br_f (by decide) ?_)
        refine br_t (by decide) ?_
        refine xs_received E T c8 c5 (by omega) (fun i hi => (hw i hi).1) ?_
        refine br_f (by decide) (br_t (by decide) ?_)
        refine yk_4 c8 (fun w => absurd z (by omega)) (fun _ => br_f n (br_t l ?_))
        iterate 6 (refine br_f (by decide) ?_)
        refine br_t (by decide) ?_
        rw [nd_syn E]
        exact yc_syn E c2 c5 c8 l' (fun i hi => (hw i hi).2) (fun wo wt sy => ⟨rfl, rl_mk C0 mm ss ⟨w, hw⟩ ff dd⟩)
      · refine br_f l (br_f (by decide) (br_t (by decide) ?_))
        exact yk_4 c8 (fun w => absurd z (by omega)) (fun _ => br_f n (br_f l ⟨rfl, R⟩))
theorem vc_cell5 {F : Type} [Lean.Grind.Field F] [Lean.Grind.IsCharP F 2] {em : F → Int32} {al : F} (E : em_P em al) {u : SX} {v : SY} (I : rl_R em al u v) (v2 : Int32) : wpX_cell (fun r => wpY_cell (fun r' v' => r' = r ∧ rl_R em al u v') v (nI 5) v2) u (nI 5) v2 := by
  refine rl_el (P := fun u v => wpX_cell (fun r => wpY_cell (fun r' v' => r' = r ∧ rl_R em al u v') v (nI 5) v2) u (nI 5) v2) I ?_
  intro p k b ml sl rl f_resultStatus f_deliveredLength f_errorCount f_erasureCount a_powers a_logs a_generator a_message a_sent a_received a_flags a_delivered a_changes a_locator a_syndromes a_modified a_evaluator a_register a_previous a_saved a_located g_resultLength g_errorCount g_erasureCount b_message b_sent b_received b_flags b_delivered b_changes b_touched b_word b_weights b_syndromes b_places b_rows b_values b_exponents C mm ss rr ff dd R
  obtain ⟨⟨c1, c2, c3, c4, c5, c6, c7, c8⟩, T, G⟩ := C
  unfold wpX_cell
  refine xk_5 (fun q => ?_) (fun q => ?_)
  · obtain ⟨N, ec, er, d, c, tc, n1, _, _, ⟨e1, e2⟩, _, _, h5, h6, _⟩ := dd q
    subst e1 e2
    by_cases n : v2 < 0
    · refine br_t n (br_f (by decide) (br_t (by decide) ?_))
      exact yk_5 (fun _ => br_t n ⟨rfl, R⟩) (fun w => absurd q w)
    · refine br_f n ?_
      by_cases l : v2 < nI N
      · refine br_t l ?_
        obtain ⟨i, hi, rfl⟩ := nI_of n
        have l' := (nI_ltI hi (by omega)).mp l
        refine br_f (by decide) (br_f (by decide) ?_)
        iterate 5 (refine br_f (by decide) ?_)
        refine br_t (by decide) ⟨pk_in i 18 (by omega), ?_⟩
        refine br_f (by decide) (br_t (by decide) ?_)
        refine yk_5 (fun _ => br_f n (br_t l ?_)) (fun w => absurd q w)
        iterate 4 (refine br_f (by decide) ?_)
        refine br_t (by decide) ⟨pk_in i 18 (by omega), ?_, R⟩
        rw [nI_clamp hi, (h5 i l').1, (h5 i l').2]
      · refine br_f l (br_f (by decide) (br_t (by decide) ?_))
        exact yk_5 (fun _ => br_f n (br_f l ⟨rfl, R⟩)) (fun w => absurd q w)
  · by_cases n : v2 < 0
    · refine br_t n (br_f (by decide) (br_t (by decide) ?_))
      exact yk_5 (fun w => absurd w q) (fun _ => br_t n ⟨rfl, R⟩)
    · refine br_f n (br_f n (br_f (by decide) (br_t (by decide) ?_)))
      exact yk_5 (fun w => absurd w q) (fun _ => br_f n (br_f n ⟨rfl, R⟩))
theorem vc_cell6 {F : Type} [Lean.Grind.Field F] [Lean.Grind.IsCharP F 2] {em : F → Int32} {al : F} (E : em_P em al) {u : SX} {v : SY} (I : rl_R em al u v) (v2 : Int32) : wpX_cell (fun r => wpY_cell (fun r' v' => r' = r ∧ rl_R em al u v') v (nI 6) v2) u (nI 6) v2 := by
  refine rl_el (P := fun u v => wpX_cell (fun r => wpY_cell (fun r' v' => r' = r ∧ rl_R em al u v') v (nI 6) v2) u (nI 6) v2) I ?_
  intro p k b ml sl rl f_resultStatus f_deliveredLength f_errorCount f_erasureCount a_powers a_logs a_generator a_message a_sent a_received a_flags a_delivered a_changes a_locator a_syndromes a_modified a_evaluator a_register a_previous a_saved a_located g_resultLength g_errorCount g_erasureCount b_message b_sent b_received b_flags b_delivered b_changes b_touched b_word b_weights b_syndromes b_places b_rows b_values b_exponents C mm ss rr ff dd R
  obtain ⟨⟨c1, c2, c3, c4, c5, c6, c7, c8⟩, T, G⟩ := C
  unfold wpX_cell
  refine xk_6 (fun q => ?_) (fun q => ?_)
  · obtain ⟨N, ec, er, d, c, tc, n1, _, _, ⟨e1, e2⟩, _, _, h5, h6, _⟩ := dd q
    subst e1 e2
    by_cases n : v2 < 0
    · refine br_t n (br_f (by decide) (br_t (by decide) ?_))
      exact yk_6 (fun _ => br_t n ⟨rfl, R⟩) (fun w => absurd q w)
    · refine br_f n ?_
      by_cases l : v2 < nI N
      · refine br_t l ?_
        obtain ⟨i, hi, rfl⟩ := nI_of n
        have l' := (nI_ltI hi (by omega)).mp l
        refine br_f (by decide) (br_f (by decide) ?_)
        iterate 6 (refine br_f (by decide) ?_)
        refine br_t (by decide) ⟨pk_in i 18 (by omega), ?_⟩
        refine br_f (by decide) (br_t (by decide) ?_)
        refine yk_6 (fun _ => br_f n (br_t l ?_)) (fun w => absurd q w)
        iterate 5 (refine br_f (by decide) ?_)
        refine br_t (by decide) ⟨pk_in i 18 (by omega), ?_, R⟩
        rw [nI_clamp hi, (h6 i l').1, (h6 i l').2]
      · refine br_f l (br_f (by decide) (br_t (by decide) ?_))
        exact yk_6 (fun _ => br_f n (br_f l ⟨rfl, R⟩)) (fun w => absurd q w)
  · by_cases n : v2 < 0
    · refine br_t n (br_f (by decide) (br_t (by decide) ?_))
      exact yk_6 (fun w => absurd w q) (fun _ => br_t n ⟨rfl, R⟩)
    · refine br_f n (br_f n (br_f (by decide) (br_t (by decide) ?_)))
      exact yk_6 (fun w => absurd w q) (fun _ => br_f n (br_f n ⟨rfl, R⟩))
theorem vc_cell7 {F : Type} [Lean.Grind.Field F] [Lean.Grind.IsCharP F 2] {em : F → Int32} {al : F} (E : em_P em al) {u : SX} {v : SY} (I : rl_R em al u v) (v2 : Int32) : wpX_cell (fun r => wpY_cell (fun r' v' => r' = r ∧ rl_R em al u v') v (nI 7) v2) u (nI 7) v2 := by
  refine rl_el (P := fun u v => wpX_cell (fun r => wpY_cell (fun r' v' => r' = r ∧ rl_R em al u v') v (nI 7) v2) u (nI 7) v2) I ?_
  intro p k b ml sl rl f_resultStatus f_deliveredLength f_errorCount f_erasureCount a_powers a_logs a_generator a_message a_sent a_received a_flags a_delivered a_changes a_locator a_syndromes a_modified a_evaluator a_register a_previous a_saved a_located g_resultLength g_errorCount g_erasureCount b_message b_sent b_received b_flags b_delivered b_changes b_touched b_word b_weights b_syndromes b_places b_rows b_values b_exponents C mm ss rr ff dd R
  have C0 := C
  obtain ⟨⟨c1, c2, c3, c4, c5, c6, c7, c8⟩, T, G⟩ := C
  unfold wpX_cell
  refine xk_7 (fun q => ?_) (fun q => ?_)
  · have D := dd q
    obtain ⟨N, ec, er, d, c, tc, n1, n2, n3, ⟨e1, e2⟩, ⟨e3, e4⟩, ⟨e5, e6⟩, h5, h6, h7, h8⟩ := D
    subst e1 e2 e3 e4 e5 e6
    have len : nI ec + nI er + 1 = nI (ec + er + 1) := by rw [nI_add, nI_1]
    by_cases n : v2 < 0
    · refine br_t n (br_f (by decide) (br_t (by decide) ?_))
      exact yk_7 (fun _ => br_t n ⟨rfl, R⟩) (fun w => absurd q w)
    · refine br_f n ?_
      by_cases l : v2 < nI ec + nI er + 1
      · refine br_t l ?_
        obtain ⟨i, hi, rfl⟩ := nI_of n
        have l' := l
        rw [len, nI_ltI hi (by omega)] at l'
        refine br_f (by decide) (br_f (by decide) ?_)
        iterate 7 (refine br_f (by decide) ?_)
        refine br_t (by decide) ⟨pk_in i 9 (by omega), ?_⟩
        refine br_f (by decide) (br_t (by decide) ?_)
        refine yk_7 (fun _ => br_f n (br_t l ?_)) (fun w => absurd q w)
        iterate 7 (refine br_f (by decide) ?_)
        refine br_t (by decide) ?_
        rw [nI_clamp hi, h8 i (by omega)]
        exact yc_loc E n1 (by omega) hi h7 (fun ex => ⟨rfl, rl_mk C0 mm ss rr ff dd⟩)
      · refine br_f l (br_f (by decide) (br_t (by decide) ?_))
        exact yk_7 (fun _ => br_f n (br_f l ⟨rfl, R⟩)) (fun w => absurd q w)
  · by_cases n : v2 < 0
    · refine br_t n (br_f (by decide) (br_t (by decide) ?_))
      exact yk_7 (fun w => absurd w q) (fun _ => br_t n ⟨rfl, R⟩)
    · refine br_f n (br_f n (br_f (by decide) (br_t (by decide) ?_)))
      exact yk_7 (fun w => absurd w q) (fun _ => br_f n (br_f n ⟨rfl, R⟩))
theorem vc_cell8 {F : Type} [Lean.Grind.Field F] [Lean.Grind.IsCharP F 2] {em : F → Int32} {al : F} (E : em_P em al) {u : SX} {v : SY} (I : rl_R em al u v) (v2 : Int32) : wpX_cell (fun r => wpY_cell (fun r' v' => r' = r ∧ rl_R em al u v') v (nI 8) v2) u (nI 8) v2 := by
  refine rl_el (P := fun u v => wpX_cell (fun r => wpY_cell (fun r' v' => r' = r ∧ rl_R em al u v') v (nI 8) v2) u (nI 8) v2) I ?_
  intro p k b ml sl rl f_resultStatus f_deliveredLength f_errorCount f_erasureCount a_powers a_logs a_generator a_message a_sent a_received a_flags a_delivered a_changes a_locator a_syndromes a_modified a_evaluator a_register a_previous a_saved a_located g_resultLength g_errorCount g_erasureCount b_message b_sent b_received b_flags b_delivered b_changes b_touched b_word b_weights b_syndromes b_places b_rows b_values b_exponents C mm ss rr ff dd R
  have C0 := C
  obtain ⟨⟨c1, c2, c3, c4, c5, c6, c7, c8⟩, T, G⟩ := C
  unfold wpX_cell
  refine xk_8 ?_
  by_cases n : v2 < 0
  · refine br_t n (br_f (by decide) (br_t (by decide) ?_))
    exact yk_8 (br_t n ⟨rfl, R⟩)
  · refine br_f n ?_
    by_cases l : v2 < nI p + 1
    · refine br_t l ?_
      obtain ⟨i, hi, rfl⟩ := nI_of n
      have l' := l
      rw [nI_1, nI_ltI hi (by omega)] at l'
      refine br_f (by decide) (br_f (by decide) ?_)
      iterate 8 (refine br_f (by decide) ?_)
      refine br_t (by decide) ⟨pk_in i 9 (by omega), ?_⟩
      refine br_f (by decide) (br_t (by decide) ?_)
      refine yk_8 (br_f n (br_t l ?_))
      iterate 8 (refine br_f (by decide) ?_)
      rw [nI_clamp hi, G i (by omega)]
      exact yc_gen E c2 c5 (by omega) (fun ex => ⟨rfl, rl_mk C0 mm ss rr ff dd⟩)
    · refine br_f l (br_f (by decide) (br_t (by decide) ?_))
      exact yk_8 (br_f n (br_f l ⟨rfl, R⟩))
theorem vc_cell {F : Type} [Lean.Grind.Field F] [Lean.Grind.IsCharP F 2] {em : F → Int32} {al : F} (E : em_P em al) {u : SX} {v : SY} (I : rl_R em al u v) (v1 v2 : Int32) : wpX_cell (fun r => wpY_cell (fun r' v' => r' = r ∧ rl_R em al u v') v v1 v2) u v1 v2 := by
  have bad : (v1 < 0 ∨ 8 < v1) → wpX_cell (fun r => wpY_cell (fun r' v' => r' = r ∧ rl_R em al u v') v v1 v2) u v1 v2 := by
    intro h
    refine rl_el (P := fun u v => wpX_cell (fun r => wpY_cell (fun r' v' => r' = r ∧ rl_R em al u v') v v1 v2) u v1 v2) I ?_
    intro p k b ml sl rl f_resultStatus f_deliveredLength f_errorCount f_erasureCount a_powers a_logs a_generator a_message a_sent a_received a_flags a_delivered a_changes a_locator a_syndromes a_modified a_evaluator a_register a_previous a_saved a_located g_resultLength g_errorCount g_erasureCount b_message b_sent b_received b_flags b_delivered b_changes b_touched b_word b_weights b_syndromes b_places b_rows b_values b_exponents C mm ss rr ff dd R
    have yy : wpY_cell (fun r' v' => r' = -1 ∧ rl_R em al (nI p, nI k, nI b, nI ml, nI sl, nI rl, f_resultStatus, f_deliveredLength, f_errorCount, f_erasureCount, a_powers, a_logs, a_generator, a_message, a_sent, a_received, a_flags, a_delivered, a_changes, a_locator, a_syndromes, a_modified, a_evaluator, a_register, a_previous, a_saved, a_located) v') (nI p, nI k, nI b, nI ml, nI sl, nI rl, f_resultStatus, g_resultLength, g_errorCount, g_erasureCount, b_message, b_sent, b_received, b_flags, b_delivered, b_changes, b_touched, b_word, b_weights, b_syndromes, b_places, b_rows, b_values, b_exponents) v1 v2 := by
      by_cases n : v1 < 0
      · exact br_t n ⟨rfl, R⟩
      · exact br_f n (br_f (Int32.not_le.mpr (h.resolve_left n)) ⟨rfl, R⟩)
    have m1 : ¬ v2 < 0 → ¬ v2 < -1 := fun n q => n (Int32.lt_trans q (by decide))
    unfold wpX_cell
    by_cases n : v1 < 0
    · exact br_t n (br_c (fun _ => yy) (fun q => br_f (m1 q) yy))
    · exact br_f n (br_t (h.resolve_left n) (br_c (fun _ => yy) (fun q => br_f (m1 q) yy)))
  by_cases n : v1 < 0
  · exact bad (Or.inl n)
  · by_cases n8 : 8 < v1
    · exact bad (Or.inr n8)
    · rcases kd_9 n n8 with h | h | h | h | h | h | h | h | h <;> subst h
      · exact vc_cell0 E I v2
      · exact vc_cell1 E I v2
      · exact vc_cell2 E I v2
      · exact vc_cell3 E I v2
      · exact vc_cell4 E I v2
      · exact vc_cell5 E I v2
      · exact vc_cell6 E I v2
      · exact vc_cell7 E I v2
      · exact vc_cell8 E I v2
end
section
/-! the constructors -/
def cz_z (lo hi x : Int32) : Int32 := if lo ≤ x then (if x ≤ hi then x else hi) else lo
theorem cz_br {lo hi x y : Int32} {P : Int32 → Prop} (e : cz_z lo hi x = y) (h : P y) : ((lo ≤ x → ((x ≤ hi → P x) ∧ (¬ x ≤ hi → P hi))) ∧ (¬ lo ≤ x → P lo)) := by
  subst e
  unfold cz_z at h
  by_cases a : lo ≤ x
  · rw [if_pos a] at h
    refine br_t a ?_
    by_cases c : x ≤ hi
    · rw [if_pos c] at h
      exact br_t c h
    · rw [if_neg c] at h
      exact br_f c h
  · rw [if_neg a] at h
    exact br_f a h
theorem cz_n {l h : Nat} (hl : l ≤ h) (hh : h < 2 ^ 31) (x : Int32) : ∃ n, l ≤ n ∧ n ≤ h ∧ cz_z (nI l) (nI h) x = nI n := by
  unfold cz_z
  by_cases a : nI l ≤ x
  · rw [if_pos a]
    by_cases c : x ≤ nI h
    · rw [if_pos c]
      have n0 : ¬ x < 0 := fun q => by
        have z : (0 : Int32) ≤ nI l := nI_pos' (by omega)
        exact Int32.lt_irrefl (Int32.lt_of_lt_of_le q (Int32.le_trans z a))
      obtain ⟨j, hj, rfl⟩ := nI_of n0
      exact ⟨j, (nI_leI (by omega) hj).mp a, (nI_leI hj hh).mp c, rfl⟩
    · rw [if_neg c]
      exact ⟨h, hl, Nat.le_refl _, rfl⟩
  · rw [if_neg a]
    exact ⟨l, Nat.le_refl _, hl, rfl⟩
section
variable {f_p f_k f_b f_messageLength f_sentLength f_receivedLength f_resultStatus f_deliveredLength f_errorCount f_erasureCount : Int32} {a_powers a_logs a_generator a_message a_sent a_received a_flags a_delivered a_changes a_locator a_syndromes a_modified a_evaluator a_register a_previous a_saved a_located : Nat → Int32}
theorem xz_clamp {post : Int32 → Prop} {lo hi x y : Int32} (e : cz_z lo hi x = y) (h : post y) : wpX_clamp post (f_p, f_k, f_b, f_messageLength, f_sentLength, f_receivedLength, f_resultStatus, f_deliveredLength, f_errorCount, f_erasureCount, a_powers, a_logs, a_generator, a_message, a_sent, a_received, a_flags, a_delivered, a_changes, a_locator, a_syndromes, a_modified, a_evaluator, a_register, a_previous, a_saved, a_located) x lo hi := cz_br (P := post) e h
end
theorem yz_init {post : SY → Prop} {k0 k1 k2 p k b : Int32} (ep : cz_z 2 8 k0 = p) (ek : cz_z 1 10 k1 = k) (eb : cz_z 0 254 k2 = b) (h : post (p, k, b, 0, 0, 0, 0, 0, 0, 0, (fun _ => 0), (fun _ => 0), (fun _ => 0), (fun _ => 0), (fun _ => 0), (fun _ => 0), (fun _ => 0), (fun _ => 0), (fun _ => 0), (fun _ => 0), (fun _ => 0), (fun _ => 0), (fun _ => 0), (fun _ => 0))) : wpY_init post k0 k1 k2 := by
  refine cz_br (P := fun y => wY_init_139 post k1 k2 y 0 0 0 0 0 0 0 0 0 0 (fun _ => 0) (fun _ => 0) (fun _ => 0) (fun _ => 0) (fun _ => 0) (fun _ => 0) (fun _ => 0) (fun _ => 0) (fun _ => 0) (fun _ => 0) (fun _ => 0) (fun _ => 0) (fun _ => 0) (fun _ => 0) ) ep ?_
  refine cz_br (P := fun y => wY_init_164 post k2 y p 0 0 0 0 0 0 0 0 0 (fun _ => 0) (fun _ => 0) (fun _ => 0) (fun _ => 0) (fun _ => 0) (fun _ => 0) (fun _ => 0) (fun _ => 0) (fun _ => 0) (fun _ => 0) (fun _ => 0) (fun _ => 0) (fun _ => 0) (fun _ => 0) ) ek ?_
  exact cz_br (P := fun y => post (p, k, y, 0, 0, 0, 0, 0, 0, 0, (fun _ => 0), (fun _ => 0), (fun _ => 0), (fun _ => 0), (fun _ => 0), (fun _ => 0), (fun _ => 0), (fun _ => 0), (fun _ => 0), (fun _ => 0), (fun _ => 0), (fun _ => 0), (fun _ => 0), (fun _ => 0))) eb h
theorem vc_init {F : Type} [Lean.Grind.Field F] [Lean.Grind.IsCharP F 2] {em : F → Int32} {al : F} (E : em_P em al) (k0 k1 k2 : Int32) : wpX_init (fun u => wpY_init (fun v => rl_R em al u v) k0 k1 k2) k0 k1 k2 := by
  obtain ⟨p, p1, p2, ep⟩ := cz_n (l := 2) (h := 8) (by omega) (by omega) k0
  obtain ⟨k, q1, q2, ek⟩ := cz_n (l := 1) (h := 10) (by omega) (by omega) k1
  obtain ⟨b, _, b2, eb⟩ := cz_n (l := 0) (h := 254) (by omega) (by omega) k2
  have ep : cz_z 2 8 k0 = nI p := ep
  have ek : cz_z 1 10 k1 = nI k := ek
  have eb : cz_z 0 254 k2 = nI b := eb
  unfold wpX_init
  refine xz_clamp ep ?_
  refine xz_clamp ek ?_
  refine xz_clamp eb ?_
  refine xb_tables E (fun pw lg T => ?_)
  refine xg_gen E T p2 b2 (fun t _ => rfl) (fun g G => ?_)
  refine xr_forget ?_
  refine yz_init ep ek eb ?_
  refine rl_mk (ml := 0) (sl := 0) (rl := 0) ⟨⟨p1, p2, q1, q2, b2, by omega, by omega, by omega⟩, T, G⟩ ⟨fun _ => 0, fun i hi => absurd hi (by omega)⟩ ⟨fun _ => 0, fun i hi => absurd hi (by omega)⟩ ⟨fun _ => 0, fun i hi => absurd hi (by omega)⟩ ⟨fun _ => false, fun i hi => absurd hi (by omega)⟩ (fun q => ?_)
  exact absurd q (by decide)
end
section
/-! what is owed -/
def i_Rel (k : Nat) (u : SX) (v : SY) : Prop := @rl_R GF gf_F gf_em gf_al u v
theorem i_up {k : Nat} {u : SX} {v : SY} (h : i_Rel k u v) : i_Rel (k + 3) u v := h
theorem i_vc0 (k0 : Int32) (k1 : Int32) (k2 : Int32) : wpX_init (fun u => wpY_init (fun v => i_Rel 3 u v) k0 k1 k2) k0 k1 k2 := @vc_init GF gf_F gf_C gf_em gf_al gf_E k0 k1 k2
theorem i_vc_parameter {k : Nat} {u : SX} {v : SY} (I : i_Rel k u v) (hk : k + 3 ≤ 1539) (v1 : Int32) : wpX_parameter (fun r => wpY_parameter (fun r' => r' = r ∧ i_Rel (k + 3) u v) v v1) u v1 := @vc_parameter GF gf_F gf_C gf_em gf_al gf_E u v I v1
theorem i_vc_multiply {k : Nat} {u : SX} {v : SY} (I : i_Rel k u v) (hk : k + 3 ≤ 1539) (v1 : Int32) (v2 : Int32) : wpX_multiply (fun r => wpY_multiply (fun r' => r' = r ∧ i_Rel (k + 3) u v) v v1 v2) u v1 v2 := @vc_multiply GF gf_F gf_C gf_em gf_al gf_E u v I v1 v2
theorem i_vc_divide {k : Nat} {u : SX} {v : SY} (I : i_Rel k u v) (hk : k + 3 ≤ 1539) (v1 : Int32) (v2 : Int32) : wpX_divide (fun r => wpY_divide (fun r' => r' = r ∧ i_Rel (k + 3) u v) v v1 v2) u v1 v2 := @vc_divide GF gf_F gf_C gf_em gf_al gf_E u v I v1 v2
theorem i_vc_alphaPower {k : Nat} {u : SX} {v : SY} (I : i_Rel k u v) (hk : k + 3 ≤ 1539) (v1 : Int32) : wpX_alphaPower (fun r => wpY_alphaPower (fun r' => r' = r ∧ i_Rel (k + 3) u v) v v1) u v1 := @vc_alphaPower GF gf_F gf_C gf_em gf_al gf_E u v I v1
theorem i_vc_put {k : Nat} {u : SX} {v : SY} (I : i_Rel k u v) (hk : k + 3 ≤ 1539) (v1 : Int32) : wpX_put (fun r u' => wpY_put (fun r' v' => r' = r ∧ i_Rel (k + 3) u' v') v v1) u v1 := @vc_put GF gf_F gf_C gf_em gf_al gf_E u v I v1
theorem i_vc_clearMessage {k : Nat} {u : SX} {v : SY} (I : i_Rel k u v) (hk : k + 3 ≤ 1539) : wpX_clearMessage (fun u' => wpY_clearMessage (fun v' => i_Rel (k + 3) u' v') v) u := @vc_clearMessage GF gf_F gf_C gf_em gf_al gf_E u v I
theorem i_vc_encode {k : Nat} {u : SX} {v : SY} (I : i_Rel k u v) (hk : k + 3 ≤ 1539) : wpX_encode (fun r u' => wpY_encode (fun r' v' => r' = r ∧ i_Rel (k + 3) u' v') v) u := @vc_encode GF gf_F gf_C gf_em gf_al gf_E u v I
theorem i_vc_transmit {k : Nat} {u : SX} {v : SY} (I : i_Rel k u v) (hk : k + 3 ≤ 1539) : wpX_transmit (fun r u' => wpY_transmit (fun r' v' => r' = r ∧ i_Rel (k + 3) u' v') v) u := @vc_transmit GF gf_F gf_C gf_em gf_al gf_E u v I
theorem i_vc_load {k : Nat} {u : SX} {v : SY} (I : i_Rel k u v) (hk : k + 3 ≤ 1539) (v1 : Int32) : wpX_load (fun r u' => wpY_load (fun r' v' => r' = r ∧ i_Rel (k + 3) u' v') v v1) u v1 := @vc_load GF gf_F gf_C gf_em gf_al gf_E u v I v1
theorem i_vc_disturb {k : Nat} {u : SX} {v : SY} (I : i_Rel k u v) (hk : k + 3 ≤ 1539) (v1 : Int32) (v2 : Int32) : wpX_disturb (fun r u' => wpY_disturb (fun r' v' => r' = r ∧ i_Rel (k + 3) u' v') v v1 v2) u v1 v2 := @vc_disturb GF gf_F gf_C gf_em gf_al gf_E u v I v1 v2
theorem i_vc_flag {k : Nat} {u : SX} {v : SY} (I : i_Rel k u v) (hk : k + 3 ≤ 1539) (v1 : Int32) (v2 : Int32) : wpX_flag (fun r u' => wpY_flag (fun r' v' => r' = r ∧ i_Rel (k + 3) u' v') v v1 (lw_bz v2)) u v1 (lw_bz v2) := @vc_flag GF gf_F gf_C gf_em gf_al gf_E u v I v1 v2
theorem i_vc_decode {k : Nat} {u : SX} {v : SY} (I : i_Rel k u v) (hk : k + 3 ≤ 1539) : wpX_decode (fun r u' => wpY_decode (fun r' v' => r' = r ∧ i_Rel (k + 3) u' v') v) u := @vc_decode GF gf_F gf_C gf_em gf_al gf_E u v I
theorem i_vc_status {k : Nat} {u : SX} {v : SY} (I : i_Rel k u v) (hk : k + 3 ≤ 1539) : wpX_status (fun r => wpY_status (fun r' => r' = r ∧ i_Rel (k + 3) u v) v) u := @vc_status GF gf_F gf_C gf_em gf_al gf_E u v I
theorem i_vc_errors {k : Nat} {u : SX} {v : SY} (I : i_Rel k u v) (hk : k + 3 ≤ 1539) : wpX_errors (fun r => wpY_errors (fun r' => r' = r ∧ i_Rel (k + 3) u v) v) u := @vc_errors GF gf_F gf_C gf_em gf_al gf_E u v I
theorem i_vc_erasures {k : Nat} {u : SX} {v : SY} (I : i_Rel k u v) (hk : k + 3 ≤ 1539) : wpX_erasures (fun r => wpY_erasures (fun r' => r' = r ∧ i_Rel (k + 3) u v) v) u := @vc_erasures GF gf_F gf_C gf_em gf_al gf_E u v I
theorem i_vc_missed {k : Nat} {u : SX} {v : SY} (I : i_Rel k u v) (hk : k + 3 ≤ 1539) : wpX_missed (fun r => wpY_missed (fun r' => r' = r ∧ i_Rel (k + 3) u v) v) u := @vc_missed GF gf_F gf_C gf_em gf_al gf_E u v I
theorem i_vc_adopt {k : Nat} {u : SX} {v : SY} (I : i_Rel k u v) (hk : k + 3 ≤ 1539) : wpX_adopt (fun r u' => wpY_adopt (fun r' v' => r' = r ∧ i_Rel (k + 3) u' v') v) u := @vc_adopt GF gf_F gf_C gf_em gf_al gf_E u v I
theorem i_vc_length {k : Nat} {u : SX} {v : SY} (I : i_Rel k u v) (hk : k + 3 ≤ 1539) (v1 : Int32) : wpX_length (fun r => wpY_length (fun r' => r' = r ∧ i_Rel (k + 3) u v) v v1) u v1 := @vc_length GF gf_F gf_C gf_em gf_al gf_E u v I v1
theorem i_vc_cell {k : Nat} {u : SX} {v : SY} (I : i_Rel k u v) (hk : k + 3 ≤ 1539) (v1 : Int32) (v2 : Int32) : wpX_cell (fun r => wpY_cell (fun r' v' => r' = r ∧ i_Rel (k + 3) u v') v v1 v2) u v1 v2 := @vc_cell GF gf_F gf_C gf_em gf_al gf_E u v I v1 v2
end
