section
/-! pure rows to paste: stores, nI and lN arithmetic, masks, shifts, narrowing, branches by naturals (pk_le, pk_lt, pk_eq), loops (lp1 .. lp16: the measure of the state; rp1 ..: recursion), negatives. Take what you need -/
theorem pk_us {f : Nat → Int32} {k : Nat} {x : Int32} : upd f k x k = x := if_pos rfl
theorem pk_un {f : Nat → Int32} {k j : Nat} {x : Int32} (h : j ≠ k) : upd f k x j = f j := if_neg h
theorem pk_uLs {f : Nat → Int64} {k : Nat} {x : Int64} : vp_updL f k x k = x := if_pos rfl
theorem pk_uLn {f : Nat → Int64} {k j : Nat} {x : Int64} (h : j ≠ k) : vp_updL f k x j = f j := if_neg h
theorem pk_sub {a b : Nat} (h : b ≤ a) : nI a - nI b = nI (a - b) := by
  obtain ⟨c, rfl⟩ : ∃ c, a = c + b := ⟨a - b, by omega⟩
  rw [← nI_add, Int32.add_sub_cancel, Nat.add_sub_cancel]
theorem pk_m1 (n : Nat) : nI (n + 1) + (-1) = nI n := by
  rw [← nI_1, Int32.add_assoc, show (1 : Int32) + (-1) = 0 from rfl, Int32.add_zero]
theorem pk_mul (a b : Nat) : nI a * nI b = nI (a * b) := (Int32.ofNat_mul a b).symm
theorem pk_div {a d : Nat} (ha : a < 2 ^ 31) (h0 : 0 < d) (hd : d < 2 ^ 31) : nI a / nI d = nI (a / d) := by
  apply Int32.toInt_inj.mp
  rw [lg_idiv_nonneg (by rw [nI_toInt ha]; omega) (by rw [nI_toInt hd]; omega), nI_toInt ha, nI_toInt hd, nI_toInt (Nat.lt_of_le_of_lt (Nat.div_le_self a d) ha)]
  first | rfl | exact (Int.natCast_ediv _ _).symm
theorem pk_rem {a d : Nat} (ha : a < 2 ^ 31) (h0 : 0 < d) (hd : d < 2 ^ 31) : nI a - nI a / nI d * nI d = nI (a % d) := by
  rw [pk_div ha h0 hd, pk_mul, pk_sub (Nat.div_mul_le_self a d)]
  exact congrArg nI (by have := Nat.div_add_mod' a d; omega)
theorem pk_sub_toInt {a b : Nat} (ha : a < 2 ^ 30) (hb : b < 2 ^ 30) : (nI a - nI b).toInt = (a : Int) - b := by
  rw [Int32.toInt_sub, nI_toInt (by omega), nI_toInt (by omega)]
  exact Int.bmod_eq_of_le (by omega) (by omega)
theorem pk_sneg {a b : Nat} (hb : b < 2 ^ 30) (h : a < b) : nI a - nI b < 0 := by
  rw [Int32.lt_iff_toInt_lt, pk_sub_toInt (by omega) hb, show (0 : Int32).toInt = 0 from by decide]
  omega
theorem pk_ix (x : Int32) {n : Nat} (hn : n < 2 ^ 31) : x < 0 ∨ nI n ≤ x ∨ ∃ j : Nat, j < n ∧ x = nI j := by
  by_cases h : x < 0
  · exact Or.inl h
  · obtain ⟨j, hj, rfl⟩ := nI_of h
    by_cases h2 : j < n
    · exact Or.inr (Or.inr ⟨j, h2, rfl⟩)
    · exact Or.inr (Or.inl (nI_le (by omega) hj))
theorem pk_le {x y : Int32} {A B : Prop} (a b : Nat) (f : a ≤ b → A) (g : b < a → B) (hx : x = nI a := by rfl) (hy : y = nI b := by rfl) (ha : a < 2 ^ 31 := by omega) (hb : b < 2 ^ 31 := by omega) : (x ≤ y → A) ∧ (¬ x ≤ y → B) := by
  subst hx hy
  rw [nI_leI ha hb]
  exact ⟨f, fun z => g (by omega)⟩
theorem pk_lt {x y : Int32} {A B : Prop} (a b : Nat) (f : a < b → A) (g : b ≤ a → B) (hx : x = nI a := by rfl) (hy : y = nI b := by rfl) (ha : a < 2 ^ 31 := by omega) (hb : b < 2 ^ 31 := by omega) : (x < y → A) ∧ (¬ x < y → B) := by
  subst hx hy
  rw [nI_ltI ha hb]
  exact ⟨f, fun z => g (by omega)⟩
theorem pk_eq {x y : Int32} {A B : Prop} (a b : Nat) (f : a = b → A) (g : a ≠ b → B) (hx : x = nI a := by rfl) (hy : y = nI b := by rfl) (ha : a < 2 ^ 31 := by omega) (hb : b < 2 ^ 31 := by omega) : (x = y → A) ∧ (¬ x = y → B) := by
  subst hx hy
  rw [nI_eq ha hb]
  exact ⟨f, g⟩
theorem pk_in {x : Int32} (n N : Nat) (h : n < N) (hx : x = nI n := by rfl) (hN : N < 2 ^ 31 := by omega) : vp_in x N := by
  subst hx
  exact vp_in_nI h hN
theorem pk_cl {x : Int32} (n : Nat) (hx : x = nI n := by rfl) (h : n < 2 ^ 31 := by omega) : x.toNatClampNeg = n := by
  subst hx
  exact nI_clamp h
theorem pk_tn {n : Nat} (h : n < 2 ^ 32) : (nI n).toBitVec.toNat = n := Nat.mod_eq_of_lt h
theorem pk_and (x : Int32) {m : Int32} (k : Nat) (hm : m.toBitVec.toNat = 2 ^ k - 1) : x &&& m = nI (x.toBitVec.toNat % 2 ^ k) := by
  apply Int32.toBitVec_inj.mp
  apply BitVec.eq_of_toNat_eq
  rw [Int32.toBitVec_and, BitVec.toNat_and, hm, Nat.and_two_pow_sub_one_eq_mod]
  show _ = (BitVec.ofNat 32 _).toNat
  rw [BitVec.toNat_ofNat]
  exact (Nat.mod_eq_of_lt (Nat.lt_of_le_of_lt (Nat.mod_le _ _) x.toBitVec.isLt)).symm
theorem pk_andN {n : Nat} (h : n < 2 ^ 32) {m : Int32} (k : Nat) (hm : m.toBitVec.toNat = 2 ^ k - 1) : nI n &&& m = nI (n % 2 ^ k) := by
  rw [pk_and _ k hm, pk_tn h]
theorem pk_andE (x : Int32) {m : Int32} (k : Nat) (hm : m.toBitVec.toNat = 2 ^ k - 1) : ∃ j : Nat, j < 2 ^ k ∧ x &&& m = nI j := ⟨_, Nat.mod_lt _ (Nat.two_pow_pos k), pk_and x k hm⟩
theorem pk_andIn (x : Int32) {m : Int32} (k : Nat) (hm : m.toBitVec.toNat = 2 ^ k - 1) (hk : k ≤ 30) : vp_in (x &&& m) (2 ^ k) := by
  obtain ⟨j, hj, e⟩ := pk_andE x k hm
  rw [e]
  exact vp_in_nI hj (Nat.lt_of_le_of_lt (Nat.pow_le_pow_right (by decide) hk) (by decide))
theorem pk_shl (a s : Int32) (k : Nat) (hs : (s.toBitVec.smod 32).toNat = k) : (a <<< s).toBitVec.toNat = a.toBitVec.toNat * 2 ^ k % 2 ^ 32 := by
  show (a.toBitVec <<< (s.toBitVec.smod 32).toNat).toNat = _
  rw [hs, BitVec.toNat_shiftLeft, Nat.shiftLeft_eq]
theorem pk_shlN {n : Nat} (s : Int32) (k : Nat) (hs : (s.toBitVec.smod 32).toNat = k) (h : n * 2 ^ k < 2 ^ 32) : nI n <<< s = nI (n * 2 ^ k) := by
  apply Int32.toBitVec_inj.mp
  apply BitVec.eq_of_toNat_eq
  have hn : n < 2 ^ 32 := Nat.lt_of_le_of_lt (Nat.le_mul_of_pos_right n (Nat.two_pow_pos k)) h
  rw [pk_shl _ _ k hs, pk_tn hn, pk_tn h, Nat.mod_eq_of_lt h]
theorem pk_shr (a s : Int32) (k : Nat) (hs : (s.toBitVec.smod 32).toNat = k) : (a >>> s).toInt = a.toInt >>> k := by
  show (a.toBitVec.sshiftRight (s.toBitVec.smod 32).toNat).toInt = _
  rw [hs, BitVec.toInt_sshiftRight]
  rfl
theorem pk_shrN {n : Nat} (h : n < 2 ^ 31) (s : Int32) (k : Nat) (hs : (s.toBitVec.smod 32).toNat = k) : nI n >>> s = nI (n / 2 ^ k) := by
  apply Int32.toInt_inj.mp
  have h2 : n / 2 ^ k ≤ n := Nat.div_le_self _ _
  rw [pk_shr _ _ k hs, nI_toInt h, nI_toInt (by omega), Int.shiftRight_eq_div_pow]
  rfl
theorem pk_ushr (x s : Int32) (k : Nat) (hs : ((s.toUInt32 &&& Int32.toUInt32 31).toBitVec % 32).toNat = k) : (x.toUInt32 >>> (s.toUInt32 &&& Int32.toUInt32 31)).toInt32.toBitVec.toNat = x.toBitVec.toNat / 2 ^ k := by
  have e : (x.toUInt32 >>> (s.toUInt32 &&& Int32.toUInt32 31)).toInt32.toBitVec = x.toBitVec >>> k := by
    rw [← hs]
    exact UInt32.toBitVec_shiftRight _ _
  rw [e, BitVec.toNat_ushiftRight, Nat.shiftRight_eq_div_pow]
theorem pk_ushrN {n : Nat} (hn : n < 2 ^ 32) (s : Int32) (k : Nat) (hs : ((s.toUInt32 &&& Int32.toUInt32 31).toBitVec % 32).toNat = k) : ((nI n).toUInt32 >>> (s.toUInt32 &&& Int32.toUInt32 31)).toInt32 = nI (n / 2 ^ k) := by
  apply Int32.toBitVec_inj.mp
  apply BitVec.eq_of_toNat_eq
  rw [pk_ushr _ s k hs, pk_tn hn, pk_tn (Nat.lt_of_le_of_lt (Nat.div_le_self _ _) hn)]
theorem pk_nb (z : Int32) : narrow .byte (.int z.toInt8.toInt32) = .int z.toInt8.toInt32 := congrArg Value.int (by simp)
theorem pk_ns (z : Int32) : narrow .short (.int z.toInt16.toInt32) = .int z.toInt16.toInt32 := congrArg Value.int (by simp)
theorem pk_fb (r : Int32) : fits .byte (.int r.toInt8.toInt32) = true := by
  have ⟨a, b⟩ := lg_i2b_range r
  have h1 : (-128 : Int32).toInt = -128 := by decide
  have h2 : (127 : Int32).toInt = 127 := by decide
  simp only [fits, Bool.and_eq_true, decide_eq_true_eq, Int32.le_iff_toInt_le, h1, h2]
  omega
theorem pk_fs (r : Int32) : fits .short (.int r.toInt16.toInt32) = true := by
  have ⟨a, b⟩ := lg_i2s_range r
  have h1 : (-32768 : Int32).toInt = -32768 := by decide
  have h2 : (32767 : Int32).toInt = 32767 := by decide
  simp only [fits, Bool.and_eq_true, decide_eq_true_eq, Int32.le_iff_toInt_le, h1, h2]
  omega
theorem pk_charN {q : Nat} (hq : q < 65536) : narrow .char (.int (nI q)) = .int (nI q) ∧ fits .char (.int (nI q)) = true := by
  constructor
  · have e : (nI q).toUInt32.toUInt16.toUInt32.toInt32 = nI q := by
      apply Int32.toBitVec_inj.mp
      apply BitVec.eq_of_toNat_eq
      show (nI q).toUInt32.toUInt16.toUInt32.toNat = q % 2 ^ 32
      rw [UInt16.toNat_toUInt32, UInt32.toNat_toUInt16, show (nI q).toUInt32.toNat = q % 2 ^ 32 from rfl]
      omega
    exact congrArg Value.int e
  · have a : (0 : Int32) ≤ nI q := nI_pos' (by omega)
    have b : nI q ≤ 65535 := nI_le (b := 65535) (by omega) (by decide)
    show (decide ((0 : Int32) ≤ nI q) && decide (nI q ≤ 65535)) = true
    rw [decide_eq_true a, decide_eq_true b]
    rfl
theorem pk_char (x : Int32) : (x.toUInt32 % 65536).toInt32 = nI (x.toBitVec.toNat % 65536) := by
  apply Int32.toBitVec_inj.mp
  apply BitVec.eq_of_toNat_eq
  rw [pk_tn (by omega)]
  show (x.toUInt32 % 65536).toNat = _
  rw [UInt32.toNat_mod]
  rfl
theorem pk_nc (x : Int32) : narrow .char (.int (x.toUInt32 % 65536).toInt32) = .int (x.toUInt32 % 65536).toInt32 := by
  rw [pk_char]
  exact (pk_charN (Nat.mod_lt _ (by decide))).1
theorem pk_fc (x : Int32) : fits .char (.int (x.toUInt32 % 65536).toInt32) = true := by
  rw [pk_char]
  exact (pk_charN (Nat.mod_lt _ (by decide))).2
theorem pk_vb (z : Int32) : vp_nar .byte z.toInt8.toInt32 = z.toInt8.toInt32 := by rw [vp_nar_byte]; simp
theorem pk_vs (z : Int32) : vp_nar .short z.toInt16.toInt32 = z.toInt16.toInt32 := by rw [vp_nar_short]; simp
theorem pk_vc (z : Int32) : vp_nar .char (z.toUInt32 % 65536).toInt32 = (z.toUInt32 % 65536).toInt32 := Value.int.inj (pk_nc z)
theorem pk_lT {n : Nat} (h : n < 2 ^ 63) : (lN n).toInt = (n : Int) := lg_ofNat_toInt h
theorem pk_lLT {a b : Nat} (ha : a < 2 ^ 63) (hb : b < 2 ^ 63) : lN a < lN b ↔ a < b := by
  rw [Int64.lt_iff_toInt_lt, pk_lT ha, pk_lT hb]; omega
theorem pk_lLE {a b : Nat} (ha : a < 2 ^ 63) (hb : b < 2 ^ 63) : lN a ≤ lN b ↔ a ≤ b := by
  rw [Int64.le_iff_toInt_le, pk_lT ha, pk_lT hb]; omega
theorem pk_lEQ {a b : Nat} (ha : a < 2 ^ 63) (hb : b < 2 ^ 63) : lN a = lN b ↔ a = b := by
  rw [← Int64.toInt_inj, pk_lT ha, pk_lT hb]; omega
theorem pk_lOf {x : Int64} (h : ¬ x < 0) : ∃ k : Nat, k < 2 ^ 63 ∧ x = lN k := by
  rw [Int64.lt_iff_toInt_lt] at h
  have h0 : (0 : Int64).toInt = 0 := by decide
  have hx := Int64.toInt_lt x
  refine ⟨x.toInt.toNat, by omega, Int64.toInt_inj.mp ?_⟩
  rw [pk_lT (by omega)]
  omega
theorem pk_lDiv {a b : Nat} (ha : a < 2 ^ 63) (h0 : 0 < b) (hb : b < 2 ^ 63) : lN a / lN b = lN (a / b) := by
  apply Int64.toInt_inj.mp
  rw [lg_ldiv_nonneg (by rw [pk_lT ha]; omega) (by rw [pk_lT hb]; omega), pk_lT ha, pk_lT hb, pk_lT (Nat.lt_of_le_of_lt (Nat.div_le_self a b) ha)]
  rfl
theorem pk_lRem {a b : Nat} (ha : a < 2 ^ 63) (h0 : 0 < b) (hb : b < 2 ^ 63) : lN a - lN a / lN b * lN b = lN (a % b) := by
  rw [pk_lDiv ha h0 hb, lN_mul, lN_sub (Nat.div_mul_le_self a b)]
  exact congrArg lN (by have := Nat.div_add_mod' a b; omega)
theorem pk_loop {σ : Type} (W : Nat → Nat → σ → Prop) (I : Nat → σ → Prop) (e i0 : Nat) (s : σ) (hi : i0 ≤ e) (h0 : I i0 s) (hx : ∀ n s, I e s → W (n + 1) e s)
    (hs : ∀ n i s, i < e → I i s → (∀ s', I (i + 1) s' → W n (i + 1) s') → W (n + 1) i s) : ∃ n, W n i0 s :=
  ⟨e + 1, loop_i W I e hx hs (e + 1) i0 s hi (by omega) h0⟩
theorem pk_loopD {σ : Type} (W : Nat → Nat → σ → Prop) (I : Nat → σ → Prop) (hx : ∀ n s, I 0 s → W (n + 1) 0 s)
    (hs : ∀ n i s, I (i + 1) s → (∀ s', I i s' → W n i s') → W (n + 1) (i + 1) s) : ∀ (e : Nat) (s : σ), I e s → W (e + 1) e s := by
  intro e
  induction e with
  | zero => exact fun s h => hx 0 s h
  | succ e ih => exact fun s h => hs (e + 1) e s h (fun s' h' => ih s' h')
theorem lp1 {A1 : Type} (W : Nat → A1 → Prop) (I : A1 → Prop) (μ : A1 → Nat) (hs : ∀ (n : Nat) (a1 : A1), I a1 → (∀ (b1 : A1), I b1 → μ b1 < μ a1 → W n b1) → W (n + 1) a1) (a1 : A1) (h : I a1) : ∃ n, W n a1 :=
  loop_m (σ := A1) (fun n s => W n s) (fun s => I s) (fun s => μ s) (fun n s hI hk => hs n s hI (fun b1 h9 hm => hk b1 h9 hm)) a1 h
theorem lp2 {A1 A2 : Type} (W : Nat → A1 → A2 → Prop) (I : A1 → A2 → Prop) (μ : A1 → A2 → Nat) (hs : ∀ (n : Nat) (a1 : A1) (a2 : A2), I a1 a2 → (∀ (b1 : A1) (b2 : A2), I b1 b2 → μ b1 b2 < μ a1 a2 → W n b1 b2) → W (n + 1) a1 a2) (a1 : A1) (a2 : A2) (h : I a1 a2) : ∃ n, W n a1 a2 :=
  loop_m (σ := A1 × A2) (fun n s => W n s.1 s.2) (fun s => I s.1 s.2) (fun s => μ s.1 s.2) (fun n s hI hk => hs n s.1 s.2 hI (fun b1 b2 h9 hm => hk (b1, b2) h9 hm)) (a1, a2) h
theorem lp3 {A1 A2 A3 : Type} (W : Nat → A1 → A2 → A3 → Prop) (I : A1 → A2 → A3 → Prop) (μ : A1 → A2 → A3 → Nat) (hs : ∀ (n : Nat) (a1 : A1) (a2 : A2) (a3 : A3), I a1 a2 a3 → (∀ (b1 : A1) (b2 : A2) (b3 : A3), I b1 b2 b3 → μ b1 b2 b3 < μ a1 a2 a3 → W n b1 b2 b3) → W (n + 1) a1 a2 a3) (a1 : A1) (a2 : A2) (a3 : A3) (h : I a1 a2 a3) : ∃ n, W n a1 a2 a3 :=
  loop_m (σ := A1 × A2 × A3) (fun n s => W n s.1 s.2.1 s.2.2) (fun s => I s.1 s.2.1 s.2.2) (fun s => μ s.1 s.2.1 s.2.2) (fun n s hI hk => hs n s.1 s.2.1 s.2.2 hI (fun b1 b2 b3 h9 hm => hk (b1, b2, b3) h9 hm)) (a1, a2, a3) h
theorem lp4 {A1 A2 A3 A4 : Type} (W : Nat → A1 → A2 → A3 → A4 → Prop) (I : A1 → A2 → A3 → A4 → Prop) (μ : A1 → A2 → A3 → A4 → Nat) (hs : ∀ (n : Nat) (a1 : A1) (a2 : A2) (a3 : A3) (a4 : A4), I a1 a2 a3 a4 → (∀ (b1 : A1) (b2 : A2) (b3 : A3) (b4 : A4), I b1 b2 b3 b4 → μ b1 b2 b3 b4 < μ a1 a2 a3 a4 → W n b1 b2 b3 b4) → W (n + 1) a1 a2 a3 a4) (a1 : A1) (a2 : A2) (a3 : A3) (a4 : A4) (h : I a1 a2 a3 a4) : ∃ n, W n a1 a2 a3 a4 :=
  loop_m (σ := A1 × A2 × A3 × A4) (fun n s => W n s.1 s.2.1 s.2.2.1 s.2.2.2) (fun s => I s.1 s.2.1 s.2.2.1 s.2.2.2) (fun s => μ s.1 s.2.1 s.2.2.1 s.2.2.2) (fun n s hI hk => hs n s.1 s.2.1 s.2.2.1 s.2.2.2 hI (fun b1 b2 b3 b4 h9 hm => hk (b1, b2, b3, b4) h9 hm)) (a1, a2, a3, a4) h
theorem lp5 {A1 A2 A3 A4 A5 : Type} (W : Nat → A1 → A2 → A3 → A4 → A5 → Prop) (I : A1 → A2 → A3 → A4 → A5 → Prop) (μ : A1 → A2 → A3 → A4 → A5 → Nat) (hs : ∀ (n : Nat) (a1 : A1) (a2 : A2) (a3 : A3) (a4 : A4) (a5 : A5), I a1 a2 a3 a4 a5 → (∀ (b1 : A1) (b2 : A2) (b3 : A3) (b4 : A4) (b5 : A5), I b1 b2 b3 b4 b5 → μ b1 b2 b3 b4 b5 < μ a1 a2 a3 a4 a5 → W n b1 b2 b3 b4 b5) → W (n + 1) a1 a2 a3 a4 a5) (a1 : A1) (a2 : A2) (a3 : A3) (a4 : A4) (a5 : A5) (h : I a1 a2 a3 a4 a5) : ∃ n, W n a1 a2 a3 a4 a5 :=
  loop_m (σ := A1 × A2 × A3 × A4 × A5) (fun n s => W n s.1 s.2.1 s.2.2.1 s.2.2.2.1 s.2.2.2.2) (fun s => I s.1 s.2.1 s.2.2.1 s.2.2.2.1 s.2.2.2.2) (fun s => μ s.1 s.2.1 s.2.2.1 s.2.2.2.1 s.2.2.2.2) (fun n s hI hk => hs n s.1 s.2.1 s.2.2.1 s.2.2.2.1 s.2.2.2.2 hI (fun b1 b2 b3 b4 b5 h9 hm => hk (b1, b2, b3, b4, b5) h9 hm)) (a1, a2, a3, a4, a5) h
theorem lp6 {A1 A2 A3 A4 A5 A6 : Type} (W : Nat → A1 → A2 → A3 → A4 → A5 → A6 → Prop) (I : A1 → A2 → A3 → A4 → A5 → A6 → Prop) (μ : A1 → A2 → A3 → A4 → A5 → A6 → Nat) (hs : ∀ (n : Nat) (a1 : A1) (a2 : A2) (a3 : A3) (a4 : A4) (a5 : A5) (a6 : A6), I a1 a2 a3 a4 a5 a6 → (∀ (b1 : A1) (b2 : A2) (b3 : A3) (b4 : A4) (b5 : A5) (b6 : A6), I b1 b2 b3 b4 b5 b6 → μ b1 b2 b3 b4 b5 b6 < μ a1 a2 a3 a4 a5 a6 → W n b1 b2 b3 b4 b5 b6) → W (n + 1) a1 a2 a3 a4 a5 a6) (a1 : A1) (a2 : A2) (a3 : A3) (a4 : A4) (a5 : A5) (a6 : A6) (h : I a1 a2 a3 a4 a5 a6) : ∃ n, W n a1 a2 a3 a4 a5 a6 :=
  loop_m (σ := A1 × A2 × A3 × A4 × A5 × A6) (fun n s => W n s.1 s.2.1 s.2.2.1 s.2.2.2.1 s.2.2.2.2.1 s.2.2.2.2.2) (fun s => I s.1 s.2.1 s.2.2.1 s.2.2.2.1 s.2.2.2.2.1 s.2.2.2.2.2) (fun s => μ s.1 s.2.1 s.2.2.1 s.2.2.2.1 s.2.2.2.2.1 s.2.2.2.2.2) (fun n s hI hk => hs n s.1 s.2.1 s.2.2.1 s.2.2.2.1 s.2.2.2.2.1 s.2.2.2.2.2 hI (fun b1 b2 b3 b4 b5 b6 h9 hm => hk (b1, b2, b3, b4, b5, b6) h9 hm)) (a1, a2, a3, a4, a5, a6) h
theorem lp7 {A1 A2 A3 A4 A5 A6 A7 : Type} (W : Nat → A1 → A2 → A3 → A4 → A5 → A6 → A7 → Prop) (I : A1 → A2 → A3 → A4 → A5 → A6 → A7 → Prop) (μ : A1 → A2 → A3 → A4 → A5 → A6 → A7 → Nat) (hs : ∀ (n : Nat) (a1 : A1) (a2 : A2) (a3 : A3) (a4 : A4) (a5 : A5) (a6 : A6) (a7 : A7), I a1 a2 a3 a4 a5 a6 a7 → (∀ (b1 : A1) (b2 : A2) (b3 : A3) (b4 : A4) (b5 : A5) (b6 : A6) (b7 : A7), I b1 b2 b3 b4 b5 b6 b7 → μ b1 b2 b3 b4 b5 b6 b7 < μ a1 a2 a3 a4 a5 a6 a7 → W n b1 b2 b3 b4 b5 b6 b7) → W (n + 1) a1 a2 a3 a4 a5 a6 a7) (a1 : A1) (a2 : A2) (a3 : A3) (a4 : A4) (a5 : A5) (a6 : A6) (a7 : A7) (h : I a1 a2 a3 a4 a5 a6 a7) : ∃ n, W n a1 a2 a3 a4 a5 a6 a7 :=
  loop_m (σ := A1 × A2 × A3 × A4 × A5 × A6 × A7) (fun n s => W n s.1 s.2.1 s.2.2.1 s.2.2.2.1 s.2.2.2.2.1 s.2.2.2.2.2.1 s.2.2.2.2.2.2) (fun s => I s.1 s.2.1 s.2.2.1 s.2.2.2.1 s.2.2.2.2.1 s.2.2.2.2.2.1 s.2.2.2.2.2.2) (fun s => μ s.1 s.2.1 s.2.2.1 s.2.2.2.1 s.2.2.2.2.1 s.2.2.2.2.2.1 s.2.2.2.2.2.2) (fun n s hI hk => hs n s.1 s.2.1 s.2.2.1 s.2.2.2.1 s.2.2.2.2.1 s.2.2.2.2.2.1 s.2.2.2.2.2.2 hI (fun b1 b2 b3 b4 b5 b6 b7 h9 hm => hk (b1, b2, b3, b4, b5, b6, b7) h9 hm)) (a1, a2, a3, a4, a5, a6, a7) h
theorem lp8 {A1 A2 A3 A4 A5 A6 A7 A8 : Type} (W : Nat → A1 → A2 → A3 → A4 → A5 → A6 → A7 → A8 → Prop) (I : A1 → A2 → A3 → A4 → A5 → A6 → A7 → A8 → Prop) (μ : A1 → A2 → A3 → A4 → A5 → A6 → A7 → A8 → Nat) (hs : ∀ (n : Nat) (a1 : A1) (a2 : A2) (a3 : A3) (a4 : A4) (a5 : A5) (a6 : A6) (a7 : A7) (a8 : A8), I a1 a2 a3 a4 a5 a6 a7 a8 → (∀ (b1 : A1) (b2 : A2) (b3 : A3) (b4 : A4) (b5 : A5) (b6 : A6) (b7 : A7) (b8 : A8), I b1 b2 b3 b4 b5 b6 b7 b8 → μ b1 b2 b3 b4 b5 b6 b7 b8 < μ a1 a2 a3 a4 a5 a6 a7 a8 → W n b1 b2 b3 b4 b5 b6 b7 b8) → W (n + 1) a1 a2 a3 a4 a5 a6 a7 a8) (a1 : A1) (a2 : A2) (a3 : A3) (a4 : A4) (a5 : A5) (a6 : A6) (a7 : A7) (a8 : A8) (h : I a1 a2 a3 a4 a5 a6 a7 a8) : ∃ n, W n a1 a2 a3 a4 a5 a6 a7 a8 :=
  loop_m (σ := A1 × A2 × A3 × A4 × A5 × A6 × A7 × A8) (fun n s => W n s.1 s.2.1 s.2.2.1 s.2.2.2.1 s.2.2.2.2.1 s.2.2.2.2.2.1 s.2.2.2.2.2.2.1 s.2.2.2.2.2.2.2) (fun s => I s.1 s.2.1 s.2.2.1 s.2.2.2.1 s.2.2.2.2.1 s.2.2.2.2.2.1 s.2.2.2.2.2.2.1 s.2.2.2.2.2.2.2) (fun s => μ s.1 s.2.1 s.2.2.1 s.2.2.2.1 s.2.2.2.2.1 s.2.2.2.2.2.1 s.2.2.2.2.2.2.1 s.2.2.2.2.2.2.2) (fun n s hI hk => hs n s.1 s.2.1 s.2.2.1 s.2.2.2.1 s.2.2.2.2.1 s.2.2.2.2.2.1 s.2.2.2.2.2.2.1 s.2.2.2.2.2.2.2 hI (fun b1 b2 b3 b4 b5 b6 b7 b8 h9 hm => hk (b1, b2, b3, b4, b5, b6, b7, b8) h9 hm)) (a1, a2, a3, a4, a5, a6, a7, a8) h
theorem lp9 {A1 A2 A3 A4 A5 A6 A7 A8 A9 : Type} (W : Nat → A1 → A2 → A3 → A4 → A5 → A6 → A7 → A8 → A9 → Prop) (I : A1 → A2 → A3 → A4 → A5 → A6 → A7 → A8 → A9 → Prop) (μ : A1 → A2 → A3 → A4 → A5 → A6 → A7 → A8 → A9 → Nat) (hs : ∀ (n : Nat) (a1 : A1) (a2 : A2) (a3 : A3) (a4 : A4) (a5 : A5) (a6 : A6) (a7 : A7) (a8 : A8) (a9 : A9), I a1 a2 a3 a4 a5 a6 a7 a8 a9 → (∀ (b1 : A1) (b2 : A2) (b3 : A3) (b4 : A4) (b5 : A5) (b6 : A6) (b7 : A7) (b8 : A8) (b9 : A9), I b1 b2 b3 b4 b5 b6 b7 b8 b9 → μ b1 b2 b3 b4 b5 b6 b7 b8 b9 < μ a1 a2 a3 a4 a5 a6 a7 a8 a9 → W n b1 b2 b3 b4 b5 b6 b7 b8 b9) → W (n + 1) a1 a2 a3 a4 a5 a6 a7 a8 a9) (a1 : A1) (a2 : A2) (a3 : A3) (a4 : A4) (a5 : A5) (a6 : A6) (a7 : A7) (a8 : A8) (a9 : A9) (h : I a1 a2 a3 a4 a5 a6 a7 a8 a9) : ∃ n, W n a1 a2 a3 a4 a5 a6 a7 a8 a9 :=
  loop_m (σ := A1 × A2 × A3 × A4 × A5 × A6 × A7 × A8 × A9) (fun n s => W n s.1 s.2.1 s.2.2.1 s.2.2.2.1 s.2.2.2.2.1 s.2.2.2.2.2.1 s.2.2.2.2.2.2.1 s.2.2.2.2.2.2.2.1 s.2.2.2.2.2.2.2.2) (fun s => I s.1 s.2.1 s.2.2.1 s.2.2.2.1 s.2.2.2.2.1 s.2.2.2.2.2.1 s.2.2.2.2.2.2.1 s.2.2.2.2.2.2.2.1 s.2.2.2.2.2.2.2.2) (fun s => μ s.1 s.2.1 s.2.2.1 s.2.2.2.1 s.2.2.2.2.1 s.2.2.2.2.2.1 s.2.2.2.2.2.2.1 s.2.2.2.2.2.2.2.1 s.2.2.2.2.2.2.2.2) (fun n s hI hk => hs n s.1 s.2.1 s.2.2.1 s.2.2.2.1 s.2.2.2.2.1 s.2.2.2.2.2.1 s.2.2.2.2.2.2.1 s.2.2.2.2.2.2.2.1 s.2.2.2.2.2.2.2.2 hI (fun b1 b2 b3 b4 b5 b6 b7 b8 b9 h9 hm => hk (b1, b2, b3, b4, b5, b6, b7, b8, b9) h9 hm)) (a1, a2, a3, a4, a5, a6, a7, a8, a9) h
theorem lp10 {A1 A2 A3 A4 A5 A6 A7 A8 A9 A10 : Type} (W : Nat → A1 → A2 → A3 → A4 → A5 → A6 → A7 → A8 → A9 → A10 → Prop) (I : A1 → A2 → A3 → A4 → A5 → A6 → A7 → A8 → A9 → A10 → Prop) (μ : A1 → A2 → A3 → A4 → A5 → A6 → A7 → A8 → A9 → A10 → Nat) (hs : ∀ (n : Nat) (a1 : A1) (a2 : A2) (a3 : A3) (a4 : A4) (a5 : A5) (a6 : A6) (a7 : A7) (a8 : A8) (a9 : A9) (a10 : A10), I a1 a2 a3 a4 a5 a6 a7 a8 a9 a10 → (∀ (b1 : A1) (b2 : A2) (b3 : A3) (b4 : A4) (b5 : A5) (b6 : A6) (b7 : A7) (b8 : A8) (b9 : A9) (b10 : A10), I b1 b2 b3 b4 b5 b6 b7 b8 b9 b10 → μ b1 b2 b3 b4 b5 b6 b7 b8 b9 b10 < μ a1 a2 a3 a4 a5 a6 a7 a8 a9 a10 → W n b1 b2 b3 b4 b5 b6 b7 b8 b9 b10) → W (n + 1) a1 a2 a3 a4 a5 a6 a7 a8 a9 a10) (a1 : A1) (a2 : A2) (a3 : A3) (a4 : A4) (a5 : A5) (a6 : A6) (a7 : A7) (a8 : A8) (a9 : A9) (a10 : A10) (h : I a1 a2 a3 a4 a5 a6 a7 a8 a9 a10) : ∃ n, W n a1 a2 a3 a4 a5 a6 a7 a8 a9 a10 :=
  loop_m (σ := A1 × A2 × A3 × A4 × A5 × A6 × A7 × A8 × A9 × A10) (fun n s => W n s.1 s.2.1 s.2.2.1 s.2.2.2.1 s.2.2.2.2.1 s.2.2.2.2.2.1 s.2.2.2.2.2.2.1 s.2.2.2.2.2.2.2.1 s.2.2.2.2.2.2.2.2.1 s.2.2.2.2.2.2.2.2.2) (fun s => I s.1 s.2.1 s.2.2.1 s.2.2.2.1 s.2.2.2.2.1 s.2.2.2.2.2.1 s.2.2.2.2.2.2.1 s.2.2.2.2.2.2.2.1 s.2.2.2.2.2.2.2.2.1 s.2.2.2.2.2.2.2.2.2) (fun s => μ s.1 s.2.1 s.2.2.1 s.2.2.2.1 s.2.2.2.2.1 s.2.2.2.2.2.1 s.2.2.2.2.2.2.1 s.2.2.2.2.2.2.2.1 s.2.2.2.2.2.2.2.2.1 s.2.2.2.2.2.2.2.2.2) (fun n s hI hk => hs n s.1 s.2.1 s.2.2.1 s.2.2.2.1 s.2.2.2.2.1 s.2.2.2.2.2.1 s.2.2.2.2.2.2.1 s.2.2.2.2.2.2.2.1 s.2.2.2.2.2.2.2.2.1 s.2.2.2.2.2.2.2.2.2 hI (fun b1 b2 b3 b4 b5 b6 b7 b8 b9 b10 h9 hm => hk (b1, b2, b3, b4, b5, b6, b7, b8, b9, b10) h9 hm)) (a1, a2, a3, a4, a5, a6, a7, a8, a9, a10) h
theorem lp11 {A1 A2 A3 A4 A5 A6 A7 A8 A9 A10 A11 : Type} (W : Nat → A1 → A2 → A3 → A4 → A5 → A6 → A7 → A8 → A9 → A10 → A11 → Prop) (I : A1 → A2 → A3 → A4 → A5 → A6 → A7 → A8 → A9 → A10 → A11 → Prop) (μ : A1 → A2 → A3 → A4 → A5 → A6 → A7 → A8 → A9 → A10 → A11 → Nat) (hs : ∀ (n : Nat) (a1 : A1) (a2 : A2) (a3 : A3) (a4 : A4) (a5 : A5) (a6 : A6) (a7 : A7) (a8 : A8) (a9 : A9) (a10 : A10) (a11 : A11), I a1 a2 a3 a4 a5 a6 a7 a8 a9 a10 a11 → (∀ (b1 : A1) (b2 : A2) (b3 : A3) (b4 : A4) (b5 : A5) (b6 : A6) (b7 : A7) (b8 : A8) (b9 : A9) (b10 : A10) (b11 : A11), I b1 b2 b3 b4 b5 b6 b7 b8 b9 b10 b11 → μ b1 b2 b3 b4 b5 b6 b7 b8 b9 b10 b11 < μ a1 a2 a3 a4 a5 a6 a7 a8 a9 a10 a11 → W n b1 b2 b3 b4 b5 b6 b7 b8 b9 b10 b11) → W (n + 1) a1 a2 a3 a4 a5 a6 a7 a8 a9 a10 a11) (a1 : A1) (a2 : A2) (a3 : A3) (a4 : A4) (a5 : A5) (a6 : A6) (a7 : A7) (a8 : A8) (a9 : A9) (a10 : A10) (a11 : A11) (h : I a1 a2 a3 a4 a5 a6 a7 a8 a9 a10 a11) : ∃ n, W n a1 a2 a3 a4 a5 a6 a7 a8 a9 a10 a11 :=
  loop_m (σ := A1 × A2 × A3 × A4 × A5 × A6 × A7 × A8 × A9 × A10 × A11) (fun n s => W n s.1 s.2.1 s.2.2.1 s.2.2.2.1 s.2.2.2.2.1 s.2.2.2.2.2.1 s.2.2.2.2.2.2.1 s.2.2.2.2.2.2.2.1 s.2.2.2.2.2.2.2.2.1 s.2.2.2.2.2.2.2.2.2.1 s.2.2.2.2.2.2.2.2.2.2) (fun s => I s.1 s.2.1 s.2.2.1 s.2.2.2.1 s.2.2.2.2.1 s.2.2.2.2.2.1 s.2.2.2.2.2.2.1 s.2.2.2.2.2.2.2.1 s.2.2.2.2.2.2.2.2.1 s.2.2.2.2.2.2.2.2.2.1 s.2.2.2.2.2.2.2.2.2.2) (fun s => μ s.1 s.2.1 s.2.2.1 s.2.2.2.1 s.2.2.2.2.1 s.2.2.2.2.2.1 s.2.2.2.2.2.2.1 s.2.2.2.2.2.2.2.1 s.2.2.2.2.2.2.2.2.1 s.2.2.2.2.2.2.2.2.2.1 s.2.2.2.2.2.2.2.2.2.2) (fun n s hI hk => hs n s.1 s.2.1 s.2.2.1 s.2.2.2.1 s.2.2.2.2.1 s.2.2.2.2.2.1 s.2.2.2.2.2.2.1 s.2.2.2.2.2.2.2.1 s.2.2.2.2.2.2.2.2.1 s.2.2.2.2.2.2.2.2.2.1 s.2.2.2.2.2.2.2.2.2.2 hI (fun b1 b2 b3 b4 b5 b6 b7 b8 b9 b10 b11 h9 hm => hk (b1, b2, b3, b4, b5, b6, b7, b8, b9, b10, b11) h9 hm)) (a1, a2, a3, a4, a5, a6, a7, a8, a9, a10, a11) h
theorem lp12 {A1 A2 A3 A4 A5 A6 A7 A8 A9 A10 A11 A12 : Type} (W : Nat → A1 → A2 → A3 → A4 → A5 → A6 → A7 → A8 → A9 → A10 → A11 → A12 → Prop) (I : A1 → A2 → A3 → A4 → A5 → A6 → A7 → A8 → A9 → A10 → A11 → A12 → Prop) (μ : A1 → A2 → A3 → A4 → A5 → A6 → A7 → A8 → A9 → A10 → A11 → A12 → Nat) (hs : ∀ (n : Nat) (a1 : A1) (a2 : A2) (a3 : A3) (a4 : A4) (a5 : A5) (a6 : A6) (a7 : A7) (a8 : A8) (a9 : A9) (a10 : A10) (a11 : A11) (a12 : A12), I a1 a2 a3 a4 a5 a6 a7 a8 a9 a10 a11 a12 → (∀ (b1 : A1) (b2 : A2) (b3 : A3) (b4 : A4) (b5 : A5) (b6 : A6) (b7 : A7) (b8 : A8) (b9 : A9) (b10 : A10) (b11 : A11) (b12 : A12), I b1 b2 b3 b4 b5 b6 b7 b8 b9 b10 b11 b12 → μ b1 b2 b3 b4 b5 b6 b7 b8 b9 b10 b11 b12 < μ a1 a2 a3 a4 a5 a6 a7 a8 a9 a10 a11 a12 → W n b1 b2 b3 b4 b5 b6 b7 b8 b9 b10 b11 b12) → W (n + 1) a1 a2 a3 a4 a5 a6 a7 a8 a9 a10 a11 a12) (a1 : A1) (a2 : A2) (a3 : A3) (a4 : A4) (a5 : A5) (a6 : A6) (a7 : A7) (a8 : A8) (a9 : A9) (a10 : A10) (a11 : A11) (a12 : A12) (h : I a1 a2 a3 a4 a5 a6 a7 a8 a9 a10 a11 a12) : ∃ n, W n a1 a2 a3 a4 a5 a6 a7 a8 a9 a10 a11 a12 :=
  loop_m (σ := A1 × A2 × A3 × A4 × A5 × A6 × A7 × A8 × A9 × A10 × A11 × A12) (fun n s => W n s.1 s.2.1 s.2.2.1 s.2.2.2.1 s.2.2.2.2.1 s.2.2.2.2.2.1 s.2.2.2.2.2.2.1 s.2.2.2.2.2.2.2.1 s.2.2.2.2.2.2.2.2.1 s.2.2.2.2.2.2.2.2.2.1 s.2.2.2.2.2.2.2.2.2.2.1 s.2.2.2.2.2.2.2.2.2.2.2) (fun s => I s.1 s.2.1 s.2.2.1 s.2.2.2.1 s.2.2.2.2.1 s.2.2.2.2.2.1 s.2.2.2.2.2.2.1 s.2.2.2.2.2.2.2.1 s.2.2.2.2.2.2.2.2.1 s.2.2.2.2.2.2.2.2.2.1 s.2.2.2.2.2.2.2.2.2.2.1 s.2.2.2.2.2.2.2.2.2.2.2) (fun s => μ s.1 s.2.1 s.2.2.1 s.2.2.2.1 s.2.2.2.2.1 s.2.2.2.2.2.1 s.2.2.2.2.2.2.1 s.2.2.2.2.2.2.2.1 s.2.2.2.2.2.2.2.2.1 s.2.2.2.2.2.2.2.2.2.1 s.2.2.2.2.2.2.2.2.2.2.1 s.2.2.2.2.2.2.2.2.2.2.2) (fun n s hI hk => hs n s.1 s.2.1 s.2.2.1 s.2.2.2.1 s.2.2.2.2.1 s.2.2.2.2.2.1 s.2.2.2.2.2.2.1 s.2.2.2.2.2.2.2.1 s.2.2.2.2.2.2.2.2.1 s.2.2.2.2.2.2.2.2.2.1 s.2.2.2.2.2.2.2.2.2.2.1 s.2.2.2.2.2.2.2.2.2.2.2 hI (fun b1 b2 b3 b4 b5 b6 b7 b8 b9 b10 b11 b12 h9 hm => hk (b1, b2, b3, b4, b5, b6, b7, b8, b9, b10, b11, b12) h9 hm)) (a1, a2, a3, a4, a5, a6, a7, a8, a9, a10, a11, a12) h
theorem lp13 {A1 A2 A3 A4 A5 A6 A7 A8 A9 A10 A11 A12 A13 : Type} (W : Nat → A1 → A2 → A3 → A4 → A5 → A6 → A7 → A8 → A9 → A10 → A11 → A12 → A13 → Prop) (I : A1 → A2 → A3 → A4 → A5 → A6 → A7 → A8 → A9 → A10 → A11 → A12 → A13 → Prop) (μ : A1 → A2 → A3 → A4 → A5 → A6 → A7 → A8 → A9 → A10 → A11 → A12 → A13 → Nat) (hs : ∀ (n : Nat) (a1 : A1) (a2 : A2) (a3 : A3) (a4 : A4) (a5 : A5) (a6 : A6) (a7 : A7) (a8 : A8) (a9 : A9) (a10 : A10) (a11 : A11) (a12 : A12) (a13 : A13), I a1 a2 a3 a4 a5 a6 a7 a8 a9 a10 a11 a12 a13 → (∀ (b1 : A1) (b2 : A2) (b3 : A3) (b4 : A4) (b5 : A5) (b6 : A6) (b7 : A7) (b8 : A8) (b9 : A9) (b10 : A10) (b11 : A11) (b12 : A12) (b13 : A13), I b1 b2 b3 b4 b5 b6 b7 b8 b9 b10 b11 b12 b13 → μ b1 b2 b3 b4 b5 b6 b7 b8 b9 b10 b11 b12 b13 < μ a1 a2 a3 a4 a5 a6 a7 a8 a9 a10 a11 a12 a13 → W n b1 b2 b3 b4 b5 b6 b7 b8 b9 b10 b11 b12 b13) → W (n + 1) a1 a2 a3 a4 a5 a6 a7 a8 a9 a10 a11 a12 a13) (a1 : A1) (a2 : A2) (a3 : A3) (a4 : A4) (a5 : A5) (a6 : A6) (a7 : A7) (a8 : A8) (a9 : A9) (a10 : A10) (a11 : A11) (a12 : A12) (a13 : A13) (h : I a1 a2 a3 a4 a5 a6 a7 a8 a9 a10 a11 a12 a13) : ∃ n, W n a1 a2 a3 a4 a5 a6 a7 a8 a9 a10 a11 a12 a13 :=
  loop_m (σ := A1 × A2 × A3 × A4 × A5 × A6 × A7 × A8 × A9 × A10 × A11 × A12 × A13) (fun n s => W n s.1 s.2.1 s.2.2.1 s.2.2.2.1 s.2.2.2.2.1 s.2.2.2.2.2.1 s.2.2.2.2.2.2.1 s.2.2.2.2.2.2.2.1 s.2.2.2.2.2.2.2.2.1 s.2.2.2.2.2.2.2.2.2.1 s.2.2.2.2.2.2.2.2.2.2.1 s.2.2.2.2.2.2.2.2.2.2.2.1 s.2.2.2.2.2.2.2.2.2.2.2.2) (fun s => I s.1 s.2.1 s.2.2.1 s.2.2.2.1 s.2.2.2.2.1 s.2.2.2.2.2.1 s.2.2.2.2.2.2.1 s.2.2.2.2.2.2.2.1 s.2.2.2.2.2.2.2.2.1 s.2.2.2.2.2.2.2.2.2.1 s.2.2.2.2.2.2.2.2.2.2.1 s.2.2.2.2.2.2.2.2.2.2.2.1 s.2.2.2.2.2.2.2.2.2.2.2.2) (fun s => μ s.1 s.2.1 s.2.2.1 s.2.2.2.1 s.2.2.2.2.1 s.2.2.2.2.2.1 s.2.2.2.2.2.2.1 s.2.2.2.2.2.2.2.1 s.2.2.2.2.2.2.2.2.1 s.2.2.2.2.2.2.2.2.2.1 s.2.2.2.2.2.2.2.2.2.2.1 s.2.2.2.2.2.2.2.2.2.2.2.1 s.2.2.2.2.2.2.2.2.2.2.2.2) (fun n s hI hk => hs n s.1 s.2.1 s.2.2.1 s.2.2.2.1 s.2.2.2.2.1 s.2.2.2.2.2.1 s.2.2.2.2.2.2.1 s.2.2.2.2.2.2.2.1 s.2.2.2.2.2.2.2.2.1 s.2.2.2.2.2.2.2.2.2.1 s.2.2.2.2.2.2.2.2.2.2.1 s.2.2.2.2.2.2.2.2.2.2.2.1 s.2.2.2.2.2.2.2.2.2.2.2.2 hI (fun b1 b2 b3 b4 b5 b6 b7 b8 b9 b10 b11 b12 b13 h9 hm => hk (b1, b2, b3, b4, b5, b6, b7, b8, b9, b10, b11, b12, b13) h9 hm)) (a1, a2, a3, a4, a5, a6, a7, a8, a9, a10, a11, a12, a13) h
theorem lp14 {A1 A2 A3 A4 A5 A6 A7 A8 A9 A10 A11 A12 A13 A14 : Type} (W : Nat → A1 → A2 → A3 → A4 → A5 → A6 → A7 → A8 → A9 → A10 → A11 → A12 → A13 → A14 → Prop) (I : A1 → A2 → A3 → A4 → A5 → A6 → A7 → A8 → A9 → A10 → A11 → A12 → A13 → A14 → Prop) (μ : A1 → A2 → A3 → A4 → A5 → A6 → A7 → A8 → A9 → A10 → A11 → A12 → A13 → A14 → Nat) (hs : ∀ (n : Nat) (a1 : A1) (a2 : A2) (a3 : A3) (a4 : A4) (a5 : A5) (a6 : A6) (a7 : A7) (a8 : A8) (a9 : A9) (a10 : A10) (a11 : A11) (a12 : A12) (a13 : A13) (a14 : A14), I a1 a2 a3 a4 a5 a6 a7 a8 a9 a10 a11 a12 a13 a14 → (∀ (b1 : A1) (b2 : A2) (b3 : A3) (b4 : A4) (b5 : A5) (b6 : A6) (b7 : A7) (b8 : A8) (b9 : A9) (b10 : A10) (b11 : A11) (b12 : A12) (b13 : A13) (b14 : A14), I b1 b2 b3 b4 b5 b6 b7 b8 b9 b10 b11 b12 b13 b14 → μ b1 b2 b3 b4 b5 b6 b7 b8 b9 b10 b11 b12 b13 b14 < μ a1 a2 a3 a4 a5 a6 a7 a8 a9 a10 a11 a12 a13 a14 → W n b1 b2 b3 b4 b5 b6 b7 b8 b9 b10 b11 b12 b13 b14) → W (n + 1) a1 a2 a3 a4 a5 a6 a7 a8 a9 a10 a11 a12 a13 a14) (a1 : A1) (a2 : A2) (a3 : A3) (a4 : A4) (a5 : A5) (a6 : A6) (a7 : A7) (a8 : A8) (a9 : A9) (a10 : A10) (a11 : A11) (a12 : A12) (a13 : A13) (a14 : A14) (h : I a1 a2 a3 a4 a5 a6 a7 a8 a9 a10 a11 a12 a13 a14) : ∃ n, W n a1 a2 a3 a4 a5 a6 a7 a8 a9 a10 a11 a12 a13 a14 :=
  loop_m (σ := A1 × A2 × A3 × A4 × A5 × A6 × A7 × A8 × A9 × A10 × A11 × A12 × A13 × A14) (fun n s => W n s.1 s.2.1 s.2.2.1 s.2.2.2.1 s.2.2.2.2.1 s.2.2.2.2.2.1 s.2.2.2.2.2.2.1 s.2.2.2.2.2.2.2.1 s.2.2.2.2.2.2.2.2.1 s.2.2.2.2.2.2.2.2.2.1 s.2.2.2.2.2.2.2.2.2.2.1 s.2.2.2.2.2.2.2.2.2.2.2.1 s.2.2.2.2.2.2.2.2.2.2.2.2.1 s.2.2.2.2.2.2.2.2.2.2.2.2.2) (fun s => I s.1 s.2.1 s.2.2.1 s.2.2.2.1 s.2.2.2.2.1 s.2.2.2.2.2.1 s.2.2.2.2.2.2.1 s.2.2.2.2.2.2.2.1 s.2.2.2.2.2.2.2.2.1 s.2.2.2.2.2.2.2.2.2.1 s.2.2.2.2.2.2.2.2.2.2.1 s.2.2.2.2.2.2.2.2.2.2.2.1 s.2.2.2.2.2.2.2.2.2.2.2.2.1 s.2.2.2.2.2.2.2.2.2.2.2.2.2) (fun s => μ s.1 s.2.1 s.2.2.1 s.2.2.2.1 s.2.2.2.2.1 s.2.2.2.2.2.1 s.2.2.2.2.2.2.1 s.2.2.2.2.2.2.2.1 s.2.2.2.2.2.2.2.2.1 s.2.2.2.2.2.2.2.2.2.1 s.2.2.2.2.2.2.2.2.2.2.1 s.2.2.2.2.2.2.2.2.2.2.2.1 s.2.2.2.2.2.2.2.2.2.2.2.2.1 s.2.2.2.2.2.2.2.2.2.2.2.2.2) (fun n s hI hk => hs n s.1 s.2.1 s.2.2.1 s.2.2.2.1 s.2.2.2.2.1 s.2.2.2.2.2.1 s.2.2.2.2.2.2.1 s.2.2.2.2.2.2.2.1 s.2.2.2.2.2.2.2.2.1 s.2.2.2.2.2.2.2.2.2.1 s.2.2.2.2.2.2.2.2.2.2.1 s.2.2.2.2.2.2.2.2.2.2.2.1 s.2.2.2.2.2.2.2.2.2.2.2.2.1 s.2.2.2.2.2.2.2.2.2.2.2.2.2 hI (fun b1 b2 b3 b4 b5 b6 b7 b8 b9 b10 b11 b12 b13 b14 h9 hm => hk (b1, b2, b3, b4, b5, b6, b7, b8, b9, b10, b11, b12, b13, b14) h9 hm)) (a1, a2, a3, a4, a5, a6, a7, a8, a9, a10, a11, a12, a13, a14) h
theorem lp15 {A1 A2 A3 A4 A5 A6 A7 A8 A9 A10 A11 A12 A13 A14 A15 : Type} (W : Nat → A1 → A2 → A3 → A4 → A5 → A6 → A7 → A8 → A9 → A10 → A11 → A12 → A13 → A14 → A15 → Prop) (I : A1 → A2 → A3 → A4 → A5 → A6 → A7 → A8 → A9 → A10 → A11 → A12 → A13 → A14 → A15 → Prop) (μ : A1 → A2 → A3 → A4 → A5 → A6 → A7 → A8 → A9 → A10 → A11 → A12 → A13 → A14 → A15 → Nat) (hs : ∀ (n : Nat) (a1 : A1) (a2 : A2) (a3 : A3) (a4 : A4) (a5 : A5) (a6 : A6) (a7 : A7) (a8 : A8) (a9 : A9) (a10 : A10) (a11 : A11) (a12 : A12) (a13 : A13) (a14 : A14) (a15 : A15), I a1 a2 a3 a4 a5 a6 a7 a8 a9 a10 a11 a12 a13 a14 a15 → (∀ (b1 : A1) (b2 : A2) (b3 : A3) (b4 : A4) (b5 : A5) (b6 : A6) (b7 : A7) (b8 : A8) (b9 : A9) (b10 : A10) (b11 : A11) (b12 : A12) (b13 : A13) (b14 : A14) (b15 : A15), I b1 b2 b3 b4 b5 b6 b7 b8 b9 b10 b11 b12 b13 b14 b15 → μ b1 b2 b3 b4 b5 b6 b7 b8 b9 b10 b11 b12 b13 b14 b15 < μ a1 a2 a3 a4 a5 a6 a7 a8 a9 a10 a11 a12 a13 a14 a15 → W n b1 b2 b3 b4 b5 b6 b7 b8 b9 b10 b11 b12 b13 b14 b15) → W (n + 1) a1 a2 a3 a4 a5 a6 a7 a8 a9 a10 a11 a12 a13 a14 a15) (a1 : A1) (a2 : A2) (a3 : A3) (a4 : A4) (a5 : A5) (a6 : A6) (a7 : A7) (a8 : A8) (a9 : A9) (a10 : A10) (a11 : A11) (a12 : A12) (a13 : A13) (a14 : A14) (a15 : A15) (h : I a1 a2 a3 a4 a5 a6 a7 a8 a9 a10 a11 a12 a13 a14 a15) : ∃ n, W n a1 a2 a3 a4 a5 a6 a7 a8 a9 a10 a11 a12 a13 a14 a15 :=
  loop_m (σ := A1 × A2 × A3 × A4 × A5 × A6 × A7 × A8 × A9 × A10 × A11 × A12 × A13 × A14 × A15) (fun n s => W n s.1 s.2.1 s.2.2.1 s.2.2.2.1 s.2.2.2.2.1 s.2.2.2.2.2.1 s.2.2.2.2.2.2.1 s.2.2.2.2.2.2.2.1 s.2.2.2.2.2.2.2.2.1 s.2.2.2.2.2.2.2.2.2.1 s.2.2.2.2.2.2.2.2.2.2.1 s.2.2.2.2.2.2.2.2.2.2.2.1 s.2.2.2.2.2.2.2.2.2.2.2.2.1 s.2.2.2.2.2.2.2.2.2.2.2.2.2.1 s.2.2.2.2.2.2.2.2.2.2.2.2.2.2) (fun s => I s.1 s.2.1 s.2.2.1 s.2.2.2.1 s.2.2.2.2.1 s.2.2.2.2.2.1 s.2.2.2.2.2.2.1 s.2.2.2.2.2.2.2.1 s.2.2.2.2.2.2.2.2.1 s.2.2.2.2.2.2.2.2.2.1 s.2.2.2.2.2.2.2.2.2.2.1 s.2.2.2.2.2.2.2.2.2.2.2.1 s.2.2.2.2.2.2.2.2.2.2.2.2.1 s.2.2.2.2.2.2.2.2.2.2.2.2.2.1 s.2.2.2.2.2.2.2.2.2.2.2.2.2.2) (fun s => μ s.1 s.2.1 s.2.2.1 s.2.2.2.1 s.2.2.2.2.1 s.2.2.2.2.2.1 s.2.2.2.2.2.2.1 s.2.2.2.2.2.2.2.1 s.2.2.2.2.2.2.2.2.1 s.2.2.2.2.2.2.2.2.2.1 s.2.2.2.2.2.2.2.2.2.2.1 s.2.2.2.2.2.2.2.2.2.2.2.1 s.2.2.2.2.2.2.2.2.2.2.2.2.1 s.2.2.2.2.2.2.2.2.2.2.2.2.2.1 s.2.2.2.2.2.2.2.2.2.2.2.2.2.2) (fun n s hI hk => hs n s.1 s.2.1 s.2.2.1 s.2.2.2.1 s.2.2.2.2.1 s.2.2.2.2.2.1 s.2.2.2.2.2.2.1 s.2.2.2.2.2.2.2.1 s.2.2.2.2.2.2.2.2.1 s.2.2.2.2.2.2.2.2.2.1 s.2.2.2.2.2.2.2.2.2.2.1 s.2.2.2.2.2.2.2.2.2.2.2.1 s.2.2.2.2.2.2.2.2.2.2.2.2.1 s.2.2.2.2.2.2.2.2.2.2.2.2.2.1 s.2.2.2.2.2.2.2.2.2.2.2.2.2.2 hI (fun b1 b2 b3 b4 b5 b6 b7 b8 b9 b10 b11 b12 b13 b14 b15 h9 hm => hk (b1, b2, b3, b4, b5, b6, b7, b8, b9, b10, b11, b12, b13, b14, b15) h9 hm)) (a1, a2, a3, a4, a5, a6, a7, a8, a9, a10, a11, a12, a13, a14, a15) h
theorem lp16 {A1 A2 A3 A4 A5 A6 A7 A8 A9 A10 A11 A12 A13 A14 A15 A16 : Type} (W : Nat → A1 → A2 → A3 → A4 → A5 → A6 → A7 → A8 → A9 → A10 → A11 → A12 → A13 → A14 → A15 → A16 → Prop) (I : A1 → A2 → A3 → A4 → A5 → A6 → A7 → A8 → A9 → A10 → A11 → A12 → A13 → A14 → A15 → A16 → Prop) (μ : A1 → A2 → A3 → A4 → A5 → A6 → A7 → A8 → A9 → A10 → A11 → A12 → A13 → A14 → A15 → A16 → Nat) (hs : ∀ (n : Nat) (a1 : A1) (a2 : A2) (a3 : A3) (a4 : A4) (a5 : A5) (a6 : A6) (a7 : A7) (a8 : A8) (a9 : A9) (a10 : A10) (a11 : A11) (a12 : A12) (a13 : A13) (a14 : A14) (a15 : A15) (a16 : A16), I a1 a2 a3 a4 a5 a6 a7 a8 a9 a10 a11 a12 a13 a14 a15 a16 → (∀ (b1 : A1) (b2 : A2) (b3 : A3) (b4 : A4) (b5 : A5) (b6 : A6) (b7 : A7) (b8 : A8) (b9 : A9) (b10 : A10) (b11 : A11) (b12 : A12) (b13 : A13) (b14 : A14) (b15 : A15) (b16 : A16), I b1 b2 b3 b4 b5 b6 b7 b8 b9 b10 b11 b12 b13 b14 b15 b16 → μ b1 b2 b3 b4 b5 b6 b7 b8 b9 b10 b11 b12 b13 b14 b15 b16 < μ a1 a2 a3 a4 a5 a6 a7 a8 a9 a10 a11 a12 a13 a14 a15 a16 → W n b1 b2 b3 b4 b5 b6 b7 b8 b9 b10 b11 b12 b13 b14 b15 b16) → W (n + 1) a1 a2 a3 a4 a5 a6 a7 a8 a9 a10 a11 a12 a13 a14 a15 a16) (a1 : A1) (a2 : A2) (a3 : A3) (a4 : A4) (a5 : A5) (a6 : A6) (a7 : A7) (a8 : A8) (a9 : A9) (a10 : A10) (a11 : A11) (a12 : A12) (a13 : A13) (a14 : A14) (a15 : A15) (a16 : A16) (h : I a1 a2 a3 a4 a5 a6 a7 a8 a9 a10 a11 a12 a13 a14 a15 a16) : ∃ n, W n a1 a2 a3 a4 a5 a6 a7 a8 a9 a10 a11 a12 a13 a14 a15 a16 :=
  loop_m (σ := A1 × A2 × A3 × A4 × A5 × A6 × A7 × A8 × A9 × A10 × A11 × A12 × A13 × A14 × A15 × A16) (fun n s => W n s.1 s.2.1 s.2.2.1 s.2.2.2.1 s.2.2.2.2.1 s.2.2.2.2.2.1 s.2.2.2.2.2.2.1 s.2.2.2.2.2.2.2.1 s.2.2.2.2.2.2.2.2.1 s.2.2.2.2.2.2.2.2.2.1 s.2.2.2.2.2.2.2.2.2.2.1 s.2.2.2.2.2.2.2.2.2.2.2.1 s.2.2.2.2.2.2.2.2.2.2.2.2.1 s.2.2.2.2.2.2.2.2.2.2.2.2.2.1 s.2.2.2.2.2.2.2.2.2.2.2.2.2.2.1 s.2.2.2.2.2.2.2.2.2.2.2.2.2.2.2) (fun s => I s.1 s.2.1 s.2.2.1 s.2.2.2.1 s.2.2.2.2.1 s.2.2.2.2.2.1 s.2.2.2.2.2.2.1 s.2.2.2.2.2.2.2.1 s.2.2.2.2.2.2.2.2.1 s.2.2.2.2.2.2.2.2.2.1 s.2.2.2.2.2.2.2.2.2.2.1 s.2.2.2.2.2.2.2.2.2.2.2.1 s.2.2.2.2.2.2.2.2.2.2.2.2.1 s.2.2.2.2.2.2.2.2.2.2.2.2.2.1 s.2.2.2.2.2.2.2.2.2.2.2.2.2.2.1 s.2.2.2.2.2.2.2.2.2.2.2.2.2.2.2) (fun s => μ s.1 s.2.1 s.2.2.1 s.2.2.2.1 s.2.2.2.2.1 s.2.2.2.2.2.1 s.2.2.2.2.2.2.1 s.2.2.2.2.2.2.2.1 s.2.2.2.2.2.2.2.2.1 s.2.2.2.2.2.2.2.2.2.1 s.2.2.2.2.2.2.2.2.2.2.1 s.2.2.2.2.2.2.2.2.2.2.2.1 s.2.2.2.2.2.2.2.2.2.2.2.2.1 s.2.2.2.2.2.2.2.2.2.2.2.2.2.1 s.2.2.2.2.2.2.2.2.2.2.2.2.2.2.1 s.2.2.2.2.2.2.2.2.2.2.2.2.2.2.2) (fun n s hI hk => hs n s.1 s.2.1 s.2.2.1 s.2.2.2.1 s.2.2.2.2.1 s.2.2.2.2.2.1 s.2.2.2.2.2.2.1 s.2.2.2.2.2.2.2.1 s.2.2.2.2.2.2.2.2.1 s.2.2.2.2.2.2.2.2.2.1 s.2.2.2.2.2.2.2.2.2.2.1 s.2.2.2.2.2.2.2.2.2.2.2.1 s.2.2.2.2.2.2.2.2.2.2.2.2.1 s.2.2.2.2.2.2.2.2.2.2.2.2.2.1 s.2.2.2.2.2.2.2.2.2.2.2.2.2.2.1 s.2.2.2.2.2.2.2.2.2.2.2.2.2.2.2 hI (fun b1 b2 b3 b4 b5 b6 b7 b8 b9 b10 b11 b12 b13 b14 b15 b16 h9 hm => hk (b1, b2, b3, b4, b5, b6, b7, b8, b9, b10, b11, b12, b13, b14, b15, b16) h9 hm)) (a1, a2, a3, a4, a5, a6, a7, a8, a9, a10, a11, a12, a13, a14, a15, a16) h
theorem pk_least (P : Nat → Prop) (h : ∃ k, P k) : ∃ k, P k ∧ ∀ j, j < k → ¬ P j := by
  obtain ⟨k, hk⟩ := h
  induction k using Nat.strongRecOn with
  | ind k ih =>
    by_cases e : ∃ j, j < k ∧ P j
    · obtain ⟨j, hj, pj⟩ := e
      exact ih j hj pj
    · exact ⟨k, hk, fun j hj pj => e ⟨j, hj, pj⟩⟩
theorem rp1 {ρ A1 : Type} (W : Nat → (ρ → Prop) → A1 → Prop) (ok : A1 → Prop) (μ : A1 → Nat) (val : A1 → ρ)
    (hs : ∀ (d : Nat) (post : ρ → Prop) (a1 : A1), ok a1 → post (val a1) → (∀ (post' : ρ → Prop) (b1 : A1), ok b1 → μ b1 < μ a1 → post' (val b1) → W d post' b1) → W (d + 1) post a1) :
    ∀ (d : Nat) (post : ρ → Prop) (a1 : A1), ok a1 → μ a1 < d → post (val a1) → W d post a1 := by
  intro d
  induction d with
  | zero => intro post a1 _ h; omega
  | succ d ih =>
    intro post a1 ho hm hp
    exact hs d post a1 ho hp (fun post' b1 ho' hm' hp' => ih post' b1 ho' (by omega) hp')
theorem rp2 {ρ A1 A2 : Type} (W : Nat → (ρ → Prop) → A1 → A2 → Prop) (ok : A1 → A2 → Prop) (μ : A1 → A2 → Nat) (val : A1 → A2 → ρ)
    (hs : ∀ (d : Nat) (post : ρ → Prop) (a1 : A1) (a2 : A2), ok a1 a2 → post (val a1 a2) → (∀ (post' : ρ → Prop) (b1 : A1) (b2 : A2), ok b1 b2 → μ b1 b2 < μ a1 a2 → post' (val b1 b2) → W d post' b1 b2) → W (d + 1) post a1 a2) :
    ∀ (d : Nat) (post : ρ → Prop) (a1 : A1) (a2 : A2), ok a1 a2 → μ a1 a2 < d → post (val a1 a2) → W d post a1 a2 := by
  intro d
  induction d with
  | zero => intro post a1 a2 _ h; omega
  | succ d ih =>
    intro post a1 a2 ho hm hp
    exact hs d post a1 a2 ho hp (fun post' b1 b2 ho' hm' hp' => ih post' b1 b2 ho' (by omega) hp')
theorem rp3 {ρ A1 A2 A3 : Type} (W : Nat → (ρ → Prop) → A1 → A2 → A3 → Prop) (ok : A1 → A2 → A3 → Prop) (μ : A1 → A2 → A3 → Nat) (val : A1 → A2 → A3 → ρ)
    (hs : ∀ (d : Nat) (post : ρ → Prop) (a1 : A1) (a2 : A2) (a3 : A3), ok a1 a2 a3 → post (val a1 a2 a3) → (∀ (post' : ρ → Prop) (b1 : A1) (b2 : A2) (b3 : A3), ok b1 b2 b3 → μ b1 b2 b3 < μ a1 a2 a3 → post' (val b1 b2 b3) → W d post' b1 b2 b3) → W (d + 1) post a1 a2 a3) :
    ∀ (d : Nat) (post : ρ → Prop) (a1 : A1) (a2 : A2) (a3 : A3), ok a1 a2 a3 → μ a1 a2 a3 < d → post (val a1 a2 a3) → W d post a1 a2 a3 := by
  intro d
  induction d with
  | zero => intro post a1 a2 a3 _ h; omega
  | succ d ih =>
    intro post a1 a2 a3 ho hm hp
    exact hs d post a1 a2 a3 ho hp (fun post' b1 b2 b3 ho' hm' hp' => ih post' b1 b2 b3 ho' (by omega) hp')
theorem rp4 {ρ A1 A2 A3 A4 : Type} (W : Nat → (ρ → Prop) → A1 → A2 → A3 → A4 → Prop) (ok : A1 → A2 → A3 → A4 → Prop) (μ : A1 → A2 → A3 → A4 → Nat) (val : A1 → A2 → A3 → A4 → ρ)
    (hs : ∀ (d : Nat) (post : ρ → Prop) (a1 : A1) (a2 : A2) (a3 : A3) (a4 : A4), ok a1 a2 a3 a4 → post (val a1 a2 a3 a4) → (∀ (post' : ρ → Prop) (b1 : A1) (b2 : A2) (b3 : A3) (b4 : A4), ok b1 b2 b3 b4 → μ b1 b2 b3 b4 < μ a1 a2 a3 a4 → post' (val b1 b2 b3 b4) → W d post' b1 b2 b3 b4) → W (d + 1) post a1 a2 a3 a4) :
    ∀ (d : Nat) (post : ρ → Prop) (a1 : A1) (a2 : A2) (a3 : A3) (a4 : A4), ok a1 a2 a3 a4 → μ a1 a2 a3 a4 < d → post (val a1 a2 a3 a4) → W d post a1 a2 a3 a4 := by
  intro d
  induction d with
  | zero => intro post a1 a2 a3 a4 _ h; omega
  | succ d ih =>
    intro post a1 a2 a3 a4 ho hm hp
    exact hs d post a1 a2 a3 a4 ho hp (fun post' b1 b2 b3 b4 ho' hm' hp' => ih post' b1 b2 b3 b4 ho' (by omega) hp')
theorem rp5 {ρ A1 A2 A3 A4 A5 : Type} (W : Nat → (ρ → Prop) → A1 → A2 → A3 → A4 → A5 → Prop) (ok : A1 → A2 → A3 → A4 → A5 → Prop) (μ : A1 → A2 → A3 → A4 → A5 → Nat) (val : A1 → A2 → A3 → A4 → A5 → ρ)
    (hs : ∀ (d : Nat) (post : ρ → Prop) (a1 : A1) (a2 : A2) (a3 : A3) (a4 : A4) (a5 : A5), ok a1 a2 a3 a4 a5 → post (val a1 a2 a3 a4 a5) → (∀ (post' : ρ → Prop) (b1 : A1) (b2 : A2) (b3 : A3) (b4 : A4) (b5 : A5), ok b1 b2 b3 b4 b5 → μ b1 b2 b3 b4 b5 < μ a1 a2 a3 a4 a5 → post' (val b1 b2 b3 b4 b5) → W d post' b1 b2 b3 b4 b5) → W (d + 1) post a1 a2 a3 a4 a5) :
    ∀ (d : Nat) (post : ρ → Prop) (a1 : A1) (a2 : A2) (a3 : A3) (a4 : A4) (a5 : A5), ok a1 a2 a3 a4 a5 → μ a1 a2 a3 a4 a5 < d → post (val a1 a2 a3 a4 a5) → W d post a1 a2 a3 a4 a5 := by
  intro d
  induction d with
  | zero => intro post a1 a2 a3 a4 a5 _ h; omega
  | succ d ih =>
    intro post a1 a2 a3 a4 a5 ho hm hp
    exact hs d post a1 a2 a3 a4 a5 ho hp (fun post' b1 b2 b3 b4 b5 ho' hm' hp' => ih post' b1 b2 b3 b4 b5 ho' (by omega) hp')
theorem rp6 {ρ A1 A2 A3 A4 A5 A6 : Type} (W : Nat → (ρ → Prop) → A1 → A2 → A3 → A4 → A5 → A6 → Prop) (ok : A1 → A2 → A3 → A4 → A5 → A6 → Prop) (μ : A1 → A2 → A3 → A4 → A5 → A6 → Nat) (val : A1 → A2 → A3 → A4 → A5 → A6 → ρ)
    (hs : ∀ (d : Nat) (post : ρ → Prop) (a1 : A1) (a2 : A2) (a3 : A3) (a4 : A4) (a5 : A5) (a6 : A6), ok a1 a2 a3 a4 a5 a6 → post (val a1 a2 a3 a4 a5 a6) → (∀ (post' : ρ → Prop) (b1 : A1) (b2 : A2) (b3 : A3) (b4 : A4) (b5 : A5) (b6 : A6), ok b1 b2 b3 b4 b5 b6 → μ b1 b2 b3 b4 b5 b6 < μ a1 a2 a3 a4 a5 a6 → post' (val b1 b2 b3 b4 b5 b6) → W d post' b1 b2 b3 b4 b5 b6) → W (d + 1) post a1 a2 a3 a4 a5 a6) :
    ∀ (d : Nat) (post : ρ → Prop) (a1 : A1) (a2 : A2) (a3 : A3) (a4 : A4) (a5 : A5) (a6 : A6), ok a1 a2 a3 a4 a5 a6 → μ a1 a2 a3 a4 a5 a6 < d → post (val a1 a2 a3 a4 a5 a6) → W d post a1 a2 a3 a4 a5 a6 := by
  intro d
  induction d with
  | zero => intro post a1 a2 a3 a4 a5 a6 _ h; omega
  | succ d ih =>
    intro post a1 a2 a3 a4 a5 a6 ho hm hp
    exact hs d post a1 a2 a3 a4 a5 a6 ho hp (fun post' b1 b2 b3 b4 b5 b6 ho' hm' hp' => ih post' b1 b2 b3 b4 b5 b6 ho' (by omega) hp')
theorem rec_p {σ ρ : Type} (W : Nat → (ρ → Prop) → σ → Prop) (ok : σ → Prop) (μ : σ → Nat) (val : σ → ρ)
    (hs : ∀ d s post, ok s → post (val s) → (∀ s' post', ok s' → μ s' < μ s → post' (val s') → W d post' s') → W (d + 1) post s) :
    ∀ d s post, ok s → μ s < d → post (val s) → W d post s := by
  intro d
  induction d with
  | zero => intro s post _ h; omega
  | succ d ih =>
    intro s post ho hm hp
    exact hs d s post ho hp (fun s' post' ho' hm' hp' => ih s' post' ho' (by omega) hp')
theorem rec_q {σ ρ : Type} (W : Nat → (ρ → Prop) → σ → Prop) (ok : σ → Prop) (μ : σ → Nat) (Q : σ → ρ → Prop)
    (hs : ∀ d s post, ok s → (∀ r, Q s r → post r) → (∀ s' post', ok s' → μ s' < μ s → (∀ r, Q s' r → post' r) → W d post' s') → W (d + 1) post s) :
    ∀ d s post, ok s → μ s < d → (∀ r, Q s r → post r) → W d post s := by
  intro d
  induction d with
  | zero => intro s post _ h; omega
  | succ d ih =>
    intro s post ho hm hp
    exact hs d s post ho hp (fun s' post' ho' hm' hp' => ih s' post' ho' (by omega) hp')
def bx_sum (f : Nat → Int32) : Nat → Int32
  | 0 => 0
  | n + 1 => bx_sum f n + f n
theorem ek_u {A : Prop} {B : Nat → Prop} {k N : Nat} (hk : k < N) (h : B k) : (some k = none → A) ∧ (∀ y : Nat, some k = some y → (y < N ∧ B y)) :=
  ⟨fun z => absurd z (Option.some_ne_none k), fun _ e => (by cases e; exact ⟨hk, h⟩)⟩
theorem ek_nu {A : Prop} {B : Nat → Prop} (h : A) : ((none : Option Nat) = none → A) ∧ (∀ y : Nat, (none : Option Nat) = some y → B y) :=
  ⟨fun _ => h, fun _ e => (by cases e)⟩
theorem ek_if {c d A B : Prop} (e : c ↔ d) (f : d → A) (g : ¬ d → B) : (c → A) ∧ (¬ c → B) :=
  ⟨fun z => f (e.mp z), fun z => g (fun y => z (e.mpr y))⟩
theorem ek_v {α : Sort _} {P : α → Prop} {a b : α} (e : a = b) (h : P b) : P a := e ▸ h
theorem co_some {x : Option Nat} {A : Prop} {B : Nat → Prop} (i : Nat) (h : B i) (hx : x = some i := by rfl) : (x = none → A) ∧ (∀ y : Nat, x = some y → B y) := by
  subst hx
  exact ⟨fun e => (nomatch e), fun y e => Option.some.inj e ▸ h⟩
theorem co_none {x : Option Nat} {A : Prop} {B : Nat → Prop} (h : A) (hx : x = none := by rfl) : (x = none → A) ∧ (∀ y : Nat, x = some y → B y) := by
  subst hx
  exact ⟨fun _ => h, fun y e => (nomatch e)⟩
theorem co_any {x : Option Nat} {A : Prop} {B : Nat → Prop} (hn : x = none → A) (hs : ∀ i : Nat, x = some i → B i) : (x = none → A) ∧ (∀ y : Nat, x = some y → B y) := ⟨hn, hs⟩
theorem co_2 {P : Nat → Prop} (h0 : P 0) (h1 : P 1) {i : Nat} (hi : i < 2) : P i :=
  match i, hi with
  | 0, _ => h0
  | 1, _ => h1
theorem co_3 {P : Nat → Prop} (h0 : P 0) (h1 : P 1) (h2 : P 2) {i : Nat} (hi : i < 3) : P i :=
  match i, hi with
  | 0, _ => h0
  | 1, _ => h1
  | 2, _ => h2
theorem co_4 {P : Nat → Prop} (h0 : P 0) (h1 : P 1) (h2 : P 2) (h3 : P 3) {i : Nat} (hi : i < 4) : P i :=
  match i, hi with
  | 0, _ => h0
  | 1, _ => h1
  | 2, _ => h2
  | 3, _ => h3
theorem co_dec {N : Nat} {P : Nat → Prop} [DecidablePred P] (h : (List.range N).all (fun i => decide (P i)) = true) {i : Nat} (hi : i < N) : P i := by
  have := List.all_eq_true.mp h i (List.mem_range.mpr hi)
  exact of_decide_eq_true this
theorem co_tab {α : Type} {l : List α} {d : α} {P : α → Prop} (h : ∀ a, a ∈ l → P a) {i : Nat} (hi : i < l.length) : P (l.getD i d) := by
  rw [List.getD_eq_getElem?_getD, List.getElem?_eq_getElem hi]
  exact h _ (List.getElem_mem hi)
theorem pk_mu {x : Int32} {L : Nat} (h0 : ¬ x < 0) (h : ¬ nI L ≤ x) (hL : L < 2 ^ 31) : ∃ j : Nat, j < L ∧ x = nI j ∧ x + 1 = nI (j + 1) ∧ x.toNatClampNeg = j ∧ L - (x + 1).toNatClampNeg < L - x.toNatClampNeg := by
  obtain ⟨j, hj, rfl⟩ := nI_of h0
  have hl : j < L := Nat.not_le.mp fun q => h (nI_le q hj)
  refine ⟨j, hl, rfl, nI_1 j, nI_clamp hj, ?_⟩
  rw [nI_1, nI_clamp (by omega), nI_clamp hj]
  omega
theorem op_s {α : Type} {r : Option α} {A : Prop} {B : α → Prop} {y : α} (h : r = some y) (b : B y) : (r = none → A) ∧ ∀ z, r = some z → B z :=
  ⟨fun e => (by rw [h] at e; cases e), fun z e => (by rw [h] at e; cases e; exact b)⟩
def l_holds {α : Type} (a : Nat → Option Nat) (LP : List Nat) (p : Nat → α) (c : Nat) (b : Nat → α) : Prop :=
  ∀ j, j < c → ∃ y, a j = some y ∧ y ∈ LP ∧ p y = b j
theorem l_holds_0 {α : Type} {a : Nat → Option Nat} {LP : List Nat} {p b : Nat → α} : l_holds a LP p 0 b := fun j h => absurd h (Nat.not_lt_zero j)
theorem l_in_new (LP : List Nat) (q : Nat) : q ∈ LP ++ [q] := List.mem_append.mpr (Or.inr (List.mem_singleton.mpr rfl))
def l_sum (b : Nat → Int32) : Nat → Int32
  | 0 => 0
  | k + 1 => l_sum b k + b k
theorem sb_shr0 (x : Int32) : x >>> ((0 : Int32) &&& 31) = x := by
  rw [show ((0 : Int32) &&& 31) = 0 by decide]
  simp
theorem sb_shl0 (x : Int32) : x <<< ((0 : Int32) &&& 31) = x := by
  rw [show ((0 : Int32) &&& 31) = 0 by decide]
  simp
theorem sb_cl0 : (0 : Int32).toNatClampNeg = 0 := by decide
theorem sb_m1 {p : Nat} (h : 0 < p) : nI p + (-1) = nI (p - 1) := by
  obtain ⟨q, rfl⟩ : ∃ q, p = q + 1 := ⟨p - 1, by omega⟩
  exact pk_m1 q
def sb_b (c : Nat) : Int32 := (nI c).toInt8.toInt32
theorem sb_byte : ∀ c, c < 256 → sb_b c &&& 255 = nI c ∧ ((nI c).toUInt32 % 65536).toInt32 = nI c ∧ nI c ≤ 255 := by decide +kernel
def sb_Fit (a : Nat → Int32) : Prop := ∀ j, fits .byte (.int (a j)) = true
def sb_Lat (t : Nat → Nat) (n : Nat) (a : Nat → Int32) : Prop := ∀ j, j < n → t j < 256 ∧ a j = sb_b (t j)
theorem sb_fitB (c : Nat) : fits .byte (.int (sb_b c)) = true := pk_fb _
theorem sb_fit0 : sb_Fit (fun _ => 0) := fun _ => by
  show fits .byte (.int 0) = true
  decide
theorem sb_fitU {a : Nat → Int32} {k : Nat} {x : Int32} (h : sb_Fit a) (hx : fits .byte (.int x) = true) : sb_Fit (upd a k x) := by
  intro j
  by_cases e : j = k
  · subst e
    rw [pk_us]
    exact hx
  · rw [pk_un e]
    exact h j
def sb_cat (t : Nat → Nat) (n : Nat) (s : Nat → Nat) : Nat → Nat := fun j => if j < n then t j else s (j - n)
theorem sb_cat_lo {t s : Nat → Nat} {n j : Nat} (h : j < n) : sb_cat t n s j = t j := if_pos h
theorem sb_cat_hi {t s : Nat → Nat} {n j : Nat} : sb_cat t n s (n + j) = s j := by
  show (if n + j < n then t (n + j) else s (n + j - n)) = s j
  rw [if_neg (by omega), Nat.add_sub_cancel_left]
theorem sb_latPut {t s : Nat → Nat} {n w : Nat} {a a' : Nat → Int32} (h : sb_Lat t n a) (hk : ∀ j, j < n → a' j = a j) (hs : ∀ i, i < w → s i < 256 ∧ a' (n + i) = sb_b (s i)) : sb_Lat (sb_cat t n s) (n + w) a' := by
  intro j hj
  by_cases e : j < n
  · rw [sb_cat_lo e, hk j e]
    exact h j e
  · obtain ⟨i, rfl⟩ : ∃ i, j = n + i := ⟨j - n, by omega⟩
    rw [sb_cat_hi]
    exact hs i (by omega)
theorem sb_latKeep {t : Nat → Nat} {n : Nat} {a a' : Nat → Int32} (h : sb_Lat t n a) (hk : ∀ j, j < n → a' j = a j) : sb_Lat t n a' := fun j hj => by
  rw [hk j hj]
  exact h j hj
def sb_cap (q m : Nat) : Nat := if q ≤ m then m else if 2 * m + 2 < q then q else 2 * m + 2
def sb_Room (q m mc ms : Nat) : Prop := q ≤ m ∨ (1 ≤ mc ∧ sb_cap q m ≤ ms ∧ sb_cap q m ≤ 65536)
theorem sb_cap_ge (q m : Nat) : q ≤ sb_cap q m := by
  unfold sb_cap
  split
  · omega
  · split <;> omega
theorem sb_cap_gem (q m : Nat) : m ≤ sb_cap q m := by
  unfold sb_cap
  split
  · omega
  · split <;> omega
theorem sb_cap_le {q m mc ms : Nat} (hm : m ≤ 65536) (hr : sb_Room q m mc ms) : sb_cap q m ≤ 65536 := by
  rcases hr with h | h
  · rw [sb_cap, if_pos h]
    exact hm
  · exact h.2.2
theorem sb_at {P : Int32 → Prop} {x y : Int32} (e : x = y) (h : P y) : P x := e ▸ h
def sb_dg (w : Nat) : Nat := if w < 10 then 1 else if w < 100 then 2 else if w < 1000 then 3 else if w < 10000 then 4 else if w < 100000 then 5 else if w < 1000000 then 6 else if w < 10000000 then 7 else if w < 100000000 then 8 else if w < 1000000000 then 9 else 10
def sb_dec (v : Nat) : Nat → Nat := fun i => 48 + v / 10 ^ (sb_dg v - 1 - i) % 10
theorem sb_dg_in (w : Nat) : 1 ≤ sb_dg w ∧ sb_dg w ≤ 10 := by
  unfold sb_dg
  constructor <;> (repeat' split) <;> omega
theorem sb_dg100 {w : Nat} (h : 100 ≤ w) (hw : w < 2 ^ 31) : sb_dg w = sb_dg (w / 100) + 2 := by
  rw [sb_dg, sb_dg, if_neg (show ¬ w < 10 by omega), if_neg (show ¬ w < 100 by omega)]
  by_cases h3 : w < 1000
  · rw [if_pos h3, if_pos (show w / 100 < 10 by omega)]
  rw [if_neg h3, if_neg (show ¬ w / 100 < 10 by omega)]
  by_cases h4 : w < 10000
  · rw [if_pos h4, if_pos (show w / 100 < 100 by omega)]
  rw [if_neg h4, if_neg (show ¬ w / 100 < 100 by omega)]
  by_cases h5 : w < 100000
  · rw [if_pos h5, if_pos (show w / 100 < 1000 by omega)]
  rw [if_neg h5, if_neg (show ¬ w / 100 < 1000 by omega)]
  by_cases h6 : w < 1000000
  · rw [if_pos h6, if_pos (show w / 100 < 10000 by omega)]
  rw [if_neg h6, if_neg (show ¬ w / 100 < 10000 by omega)]
  by_cases h7 : w < 10000000
  · rw [if_pos h7, if_pos (show w / 100 < 100000 by omega)]
  rw [if_neg h7, if_neg (show ¬ w / 100 < 100000 by omega)]
  by_cases h8 : w < 100000000
  · rw [if_pos h8, if_pos (show w / 100 < 1000000 by omega)]
  rw [if_neg h8, if_neg (show ¬ w / 100 < 1000000 by omega)]
  by_cases h9 : w < 1000000000
  · rw [if_pos h9, if_pos (show w / 100 < 10000000 by omega)]
  rw [if_neg h9, if_neg (show ¬ w / 100 < 10000000 by omega)]
  rw [if_pos (show w / 100 < 100000000 by omega)]
theorem sb_negT {w : Nat} (h : w < 2 ^ 31) : (-nI w).toInt = -(w : Int) := by
  rw [Int32.toInt_neg, nI_toInt h]
  exact Int.bmod_eq_of_le (by omega) (by omega)
theorem sb_nle {a b : Nat} (ha : a < 2 ^ 31) (hb : b < 2 ^ 31) : -nI a ≤ -nI b ↔ b ≤ a := by
  rw [Int32.le_iff_toInt_le, sb_negT ha, sb_negT hb]
  omega
theorem sb_nlt {a b : Nat} (ha : a < 2 ^ 31) (hb : b < 2 ^ 31) : -nI a < -nI b ↔ b < a := by
  rw [Int32.lt_iff_toInt_lt, sb_negT ha, sb_negT hb]
  omega
theorem sb_cmp {A B : Prop} {x : Int32} (v c : Nat) (f : c ≤ v → A) (g : v < c → B) (hv : v < 2 ^ 31) (hx : x = -nI c := by rfl) (hc : c < 2 ^ 31 := by omega) : (-nI v ≤ x → A) ∧ (¬ -nI v ≤ x → B) := by
  subst hx
  rw [sb_nle hv hc]
  exact ⟨f, fun z => g (by omega)⟩
theorem sb_ndiv {w : Nat} (hw : w < 2 ^ 31) : (-nI w) / 100 = -nI (w / 100) := by
  apply Int32.toInt_inj.mp
  have h100 : (100 : Int32).toInt = 100 := by decide
  rw [Int32.toInt_div, sb_negT hw, h100, sb_negT (by omega), Int.neg_tdiv, Int.tdiv_eq_ediv_of_nonneg (by omega), Int.bmod_eq_of_le (by omega) (by omega)]
  omega
theorem sb_nrem {w : Nat} (hw : w < 2 ^ 31) : (-nI (w / 100)) * 100 - (-nI w) = nI (w % 100) := by
  have h := pk_rem (a := w) (d := 100) hw (by decide) (by decide)
  rw [pk_div hw (by decide) (by decide)] at h
  rw [← h]
  show (-nI (w / 100)) * nI 100 - (-nI w) = nI w - nI (w / 100) * nI 100
  rw [Int32.neg_mul, Int32.sub_neg, Int32.add_comm, ← Int32.sub_eq_add_neg]
end
section
/-! rows on bits, shifts and unsigned numbers, to paste: each family out of a closed proof of our own, whole with what it rests on; each by itself clean at Lean in its own claim (generation 39, form 5). Take a family whole -/
/-! ===== Int32 by its bits: bt x i ===== -/
def bt (x : Int32) (i : Nat) : Bool := x.toBitVec.getLsbD i
theorem b_ext {x y : Int32} (h : ∀ i, i < 32 → bt x i = bt y i) : x = y := Int32.toBitVec_inj.mp (BitVec.eq_of_getLsbD_eq (fun i hi => h i hi))
theorem b_or (x y : Int32) (i : Nat) : bt (x ||| y) i = (bt x i || bt y i) := by unfold bt; rw [Int32.toBitVec_or, BitVec.getLsbD_or]
theorem b_and (x y : Int32) (i : Nat) : bt (x &&& y) i = (bt x i && bt y i) := by unfold bt; rw [Int32.toBitVec_and, BitVec.getLsbD_and]
theorem b_xor (x y : Int32) (i : Nat) : bt (x ^^^ y) i = (bt x i ^^ bt y i) := by unfold bt; rw [Int32.toBitVec_xor, BitVec.getLsbD_xor]
theorem b_big {x : Int32} {i : Nat} (h : 32 ≤ i) : bt x i = false := BitVec.getLsbD_of_ge _ _ h
theorem b_255 (i : Nat) : bt 255 i = decide (i < 8) := by
  rcases Nat.lt_or_ge i 32 with h | h
  · exact (by decide +kernel : ∀ i, i < 32 → bt 255 i = decide (i < 8)) i h
  · rw [b_big h, decide_eq_false (by omega)]
theorem b_65535 (i : Nat) : bt 65535 i = decide (i < 16) := by
  rcases Nat.lt_or_ge i 32 with h | h
  · exact (by decide +kernel : ∀ i, i < 32 → bt 65535 i = decide (i < 16)) i h
  · rw [b_big h, decide_eq_false (by omega)]
theorem b_m1 : ∀ i, i < 32 → bt (-1) i = true := by decide +kernel
theorem b_0 (i : Nat) : bt 0 i = false := BitVec.getLsbD_zero
theorem s_l : ∀ n, n < 32 → ((nI n &&& 31).toBitVec.smod 32).toNat = n := by decide +kernel
theorem s_u : ∀ n, n < 32 → (((nI n).toUInt32 &&& Int32.toUInt32 31).toBitVec % 32).toNat = n := by decide +kernel
theorem b_shl (n : Nat) (hn : n < 32) (x : Int32) {i : Nat} (hi : i < 32) : bt (x <<< (nI n &&& 31)) i = (decide (n ≤ i) && bt x (i - n)) := by
  unfold bt
  rw [Int32.toBitVec_shiftLeft]
  show (x.toBitVec <<< ((nI n &&& 31).toBitVec.smod 32).toNat).getLsbD i = _
  rw [s_l n hn, BitVec.getLsbD_shiftLeft]
  rcases Nat.lt_or_ge i n with h | h
  · simp [h, Nat.not_le.mpr h]
  · simp [hi, h, Nat.not_lt.mpr h]
theorem b_ushr (n : Nat) (hn : n < 32) (x : Int32) (i : Nat) : bt ((x.toUInt32 >>> ((nI n).toUInt32 &&& Int32.toUInt32 31)).toInt32) i = bt x (n + i) := by
  show (x.toUInt32 >>> ((nI n).toUInt32 &&& Int32.toUInt32 31)).toBitVec.getLsbD i = x.toUInt32.toBitVec.getLsbD (n + i)
  rw [UInt32.toBitVec_shiftRight]
  show (x.toUInt32.toBitVec >>> (((nI n).toUInt32 &&& Int32.toUInt32 31).toBitVec % 32).toNat).getLsbD i = _
  rw [s_u n hn, BitVec.getLsbD_ushiftRight]
theorem b_sshr (n : Nat) (hn : n < 32) (x : Int32) {i : Nat} (hi : i < 32) : bt (x >>> (nI n &&& 31)) i = if n + i < 32 then bt x (n + i) else bt x 31 := by
  unfold bt
  rw [Int32.toBitVec_shiftRight]
  show (x.toBitVec.sshiftRight ((nI n &&& 31).toBitVec.smod 32).toNat).getLsbD i = _
  rw [s_l n hn, BitVec.getLsbD_sshiftRight, BitVec.msb_eq_getLsbD_last]
  simp [hi]
theorem b_shl8 (x : Int32) {i : Nat} (hi : i < 32) : bt (x <<< ((8 : Int32) &&& 31)) i = (decide (8 ≤ i) && bt x (i - 8)) := b_shl 8 (by omega) x hi
theorem b_shl16 (x : Int32) {i : Nat} (hi : i < 32) : bt (x <<< ((16 : Int32) &&& 31)) i = (decide (16 ≤ i) && bt x (i - 16)) := b_shl 16 (by omega) x hi
theorem b_shl24 (x : Int32) {i : Nat} (hi : i < 32) : bt (x <<< ((24 : Int32) &&& 31)) i = (decide (24 ≤ i) && bt x (i - 24)) := b_shl 24 (by omega) x hi
theorem b_sshr8 (x : Int32) {i : Nat} (hi : i < 32) : bt (x >>> ((8 : Int32) &&& 31)) i = if 8 + i < 32 then bt x (8 + i) else bt x 31 := b_sshr 8 (by omega) x hi
/-! ===== nI under and, xor, >>>, one bit, 65535 ===== -/
theorem nx_and (a b : Nat) : nI a &&& nI b = nI (a &&& b) := by
  apply Int32.toBitVec_inj.1
  show BitVec.ofNat 32 a &&& BitVec.ofNat 32 b = BitVec.ofNat 32 (a &&& b)
  apply BitVec.eq_of_getLsbD_eq
  intro i hi
  simp [hi]
theorem nx_xor (a b : Nat) : nI a ^^^ nI b = nI (a ^^^ b) := by
  apply Int32.toBitVec_inj.1
  show BitVec.ofNat 32 a ^^^ BitVec.ofNat 32 b = BitVec.ofNat 32 (a ^^^ b)
  apply BitVec.eq_of_getLsbD_eq
  intro i hi
  simp [hi]
theorem nx_cnt : ∀ j : Fin 32, (UInt32.ofNat j.val &&& Int32.toUInt32 31).toNat % 32 = j.val := by decide +kernel
theorem nx_ush {k j : Nat} (hk : k < 65536) (hj : j < 32) : ((nI k).toUInt32 >>> ((nI j).toUInt32 &&& Int32.toUInt32 31)).toInt32 = nI (k >>> j) := by
  have hs : k >>> j ≤ k := by
    rw [Nat.shiftRight_eq_div_pow]
    exact Nat.div_le_self _ _
  have e2 : UInt32.ofNat k >>> (UInt32.ofNat j &&& Int32.toUInt32 31) = UInt32.ofNat (k >>> j) := by
    apply UInt32.toNat_inj.1
    have h1 : (UInt32.ofNat k).toNat = k := Nat.mod_eq_of_lt (by omega)
    have h2 : (UInt32.ofNat (k >>> j)).toNat = k >>> j := Nat.mod_eq_of_lt (by omega)
    rw [UInt32.toNat_shiftRight, nx_cnt ⟨j, hj⟩, h1, h2]
  show (UInt32.ofNat k >>> (UInt32.ofNat j &&& Int32.toUInt32 31)).toInt32 = _
  rw [e2]
  rfl
theorem nx_bit {k j : Nat} (hk : k < 65536) (hj : j < 16) : (((nI k).toUInt32 >>> ((nI j).toUInt32 &&& Int32.toUInt32 31)).toInt32 &&& 1) = 0 ↔ k.testBit j = false := by
  rw [nx_ush hk (by omega)]
  show nI (k >>> j) &&& nI 1 = 0 ↔ _
  rw [nx_and, Nat.and_one_is_mod, ← nI_0, nI_eq (by omega) (by omega), Nat.testBit_eq_decide_div_mod_eq, Nat.shiftRight_eq_div_pow, decide_eq_false_iff_not]
  generalize k / 2 ^ j = z
  omega
theorem nx_mod (k : Nat) : nI k &&& 65535 = nI (k % 65536) := by
  show nI k &&& nI 65535 = _
  rw [nx_and, show (65535 : Nat) = 2 ^ 16 - 1 from rfl, Nat.and_two_pow_sub_one_eq_mod]
theorem nx_m16 {k : Nat} (h : k < 65536) : nI k &&& 65535 = nI k := by rw [nx_mod, Nat.mod_eq_of_lt h]
theorem nx_mask (x : Int32) : ∃ k, k < 65536 ∧ x &&& 65535 = nI k := by
  have e : x = nI x.toBitVec.toNat := by
    apply Int32.toBitVec_inj.1
    show x.toBitVec = BitVec.ofNat 32 x.toBitVec.toNat
    simp
  refine ⟨x.toBitVec.toNat % 65536, Nat.mod_lt _ (by omega), ?_⟩
  rw [← nx_mod, ← e]
/-! ===== Int32 as a set of bits: test, set ===== -/
def nf_M (m : Int32) : Nat := 4294967296 - m.toBitVec.toNat
theorem nf_sh : ∀ l, l < 32 → ((1 : Int32) <<< (nI l &&& 31)).toBitVec = BitVec.twoPow 32 l := by decide +kernel
theorem nf_sl : ∀ l, l < 32 → (((nI l).toUInt32 &&& Int32.toUInt32 31).toBitVec % 32).toNat = l := by decide +kernel
theorem nf_tp : ∀ l, l < 32 → BitVec.twoPow 32 l ≠ 0#32 := by decide +kernel
theorem nf_bit (m : Int32) (l : Nat) (hl : l < 32) : ((m.toUInt32 >>> ((nI l).toUInt32 &&& Int32.toUInt32 31)).toInt32 &&& 1) = 0 ↔ (m &&& ((1 : Int32) <<< (nI l &&& 31))) = 0 := by
  have e : ((m.toUInt32 >>> ((nI l).toUInt32 &&& Int32.toUInt32 31)).toInt32).toBitVec = m.toBitVec >>> l := by
    show m.toBitVec >>> (((nI l).toUInt32 &&& Int32.toUInt32 31).toBitVec % 32) = m.toBitVec >>> l
    rw [BitVec.ushiftRight_eq', nf_sl l hl]
  rw [← Int32.toBitVec_inj, ← Int32.toBitVec_inj, Int32.toBitVec_and, Int32.toBitVec_and, nf_sh l hl, e, BitVec.and_twoPow]
  show (m.toBitVec >>> l &&& 1#32) = 0#32 ↔ _ = 0#32
  rw [BitVec.and_one_eq_setWidth_ofBool_getLsbD, BitVec.getLsbD_ushiftRight, Nat.add_zero]
  cases hb : m.toBitVec.getLsbD l
  · exact ⟨fun _ => by simp, fun _ => by decide⟩
  · exact ⟨fun z => absurd z (by decide), fun z => absurd ((if_pos rfl).symm.trans z) (nf_tp l hl)⟩
theorem nf_gr (m k : Int32) (h : m &&& k = 0) (hk : k ≠ 0) : nf_M (m ||| k) < nf_M m := by
  have hm := m.toBitVec.isLt
  have hm' := (m ||| k).toBitVec.isLt
  have h1 : m.toBitVec.toNat ≤ (m ||| k).toBitVec.toNat := by
    rw [Int32.toBitVec_or, BitVec.toNat_or]
    exact Nat.left_le_or
  have h2 : m.toBitVec.toNat ≠ (m ||| k).toBitVec.toNat := by
    intro e
    have e2 : m = m ||| k := Int32.toBitVec_inj.mp (BitVec.eq_of_toNat_eq e)
    apply hk
    apply Int32.toBitVec_inj.mp
    show k.toBitVec = 0#32
    apply BitVec.eq_of_getLsbD_eq
    intro i hi
    have a : m.toBitVec.getLsbD i = (m.toBitVec.getLsbD i || k.toBitVec.getLsbD i) := by rw [← BitVec.getLsbD_or, ← Int32.toBitVec_or, ← e2]
    have b : (m.toBitVec.getLsbD i && k.toBitVec.getLsbD i) = false := by
      rw [← BitVec.getLsbD_and, ← Int32.toBitVec_and, h]
      exact BitVec.getLsbD_zero
    rw [BitVec.getLsbD_zero]
    revert a b
    cases m.toBitVec.getLsbD i <;> cases k.toBitVec.getLsbD i <;> simp
  unfold nf_M
  omega
/-! ===== a byte read unsigned ===== -/
theorem bp_b (x : Int32) : x.toInt8.toInt32 &&& 255 = x &&& 255 := by
  apply Int32.toBitVec_inj.mp
  rw [Int32.toBitVec_and, Int32.toBitVec_and, Int8.toBitVec_toInt32, Int32.toBitVec_toInt8]
  apply BitVec.eq_of_getLsbD_eq
  intro i hi
  rw [BitVec.getLsbD_and, BitVec.getLsbD_and]
  have hm : ∀ i < 32, 8 ≤ i → (255 : Int32).toBitVec.getLsbD i = false := by decide
  rcases Nat.lt_or_ge i 8 with z | z
  · rw [BitVec.getLsbD_signExtend, BitVec.getLsbD_signExtend, if_pos z, if_pos hi]
    simp only [z, hi, decide_true, Bool.true_and]
  · rw [hm i hi z]; simp
/-! ===== the char cast and 65535 ===== -/
theorem em_w (v : Int32) : ∃ w : Nat, w < 65536 ∧ (v.toUInt32 % 65536).toInt32 = nI w ∧ v &&& 65535 = nI w := by
  have hr := lw_u16_r v
  have h0 : (0 : Int32).toInt = 0 := by decide
  obtain ⟨w, h1, h2⟩ := nI_of (x := lw_u16 v) (by rw [Int32.lt_iff_toInt_lt]; omega)
  have h3 : (v.toUInt32 % 65536).toInt32 = nI w := h2
  rw [h2, nI_toInt h1] at hr
  exact ⟨w, by omega, h3, by rw [← lg_i2c_mask, ← lg_i2c_nf, h3]⟩
/-! ===== Int64 as a set of bits: test, set, clear ===== -/
theorem ts_nf {x : Bool} (h : ¬ x = false) : x = true := by cases x <;> first | rfl | exact absurd rfl h
theorem ts_nt {x : Bool} (h : ¬ x = true) : x = false := by cases x <;> first | rfl | exact absurd rfl h
theorem ts_bit {w : Int64} {s : UInt64} {j : Nat} (hj : j < 64) (hs : s.toNat = j) : ((w.toUInt64 >>> s).toInt64 &&& 1) = 0 ↔ w.toBitVec.getLsbD j = false := by
  have e : (w.toUInt64 >>> s).toInt64.toBitVec = w.toBitVec >>> j := by
    apply BitVec.eq_of_toNat_eq
    show (w.toUInt64 >>> s).toNat = _
    rw [UInt64.toNat_shiftRight, hs, Nat.mod_eq_of_lt hj, BitVec.toNat_ushiftRight]
    rfl
  rw [← Int64.toBitVec_inj, Int64.toBitVec_and, e]
  show w.toBitVec >>> j &&& 1#64 = 0#64 ↔ _
  constructor
  · intro h
    have t := congrArg (fun x => x.getLsbD 0) h
    simpa using t
  · intro h
    apply BitVec.eq_of_getLsbD_eq
    intro i hi
    cases i with
    | zero => simp [h]
    | succ i => simp
theorem ts_or {w m : Int64} {j : Nat} (hj : j < 64) (hm : m.toBitVec = BitVec.twoPow 64 j) : (w ||| m) = w ↔ w.toBitVec.getLsbD j = true := by
  rw [← Int64.toBitVec_inj, Int64.toBitVec_or, hm]
  constructor
  · intro h
    have t := congrArg (fun x => x.getLsbD j) h
    simp only [BitVec.getLsbD_or, BitVec.getLsbD_twoPow] at t
    simpa [hj] using t.symm
  · intro h
    apply BitVec.eq_of_getLsbD_eq
    intro i hi
    rw [BitVec.getLsbD_or, BitVec.getLsbD_twoPow]
    by_cases e : j = i
    · subst e; rw [h, Bool.true_or]
    · simp [e]
theorem ts_and {w m : Int64} {j : Nat} (hj : j < 64) (hm : m.toBitVec = BitVec.twoPow 64 j) : (w &&& (m ^^^ (-1))) = w ↔ w.toBitVec.getLsbD j = false := by
  have ha : (-1 : Int64).toBitVec = BitVec.allOnes 64 := by decide
  rw [← Int64.toBitVec_inj, Int64.toBitVec_and, Int64.toBitVec_xor, hm, ha]
  constructor
  · intro h
    have t := congrArg (fun x => x.getLsbD j) h
    simp only [BitVec.getLsbD_and, BitVec.getLsbD_xor, BitVec.getLsbD_twoPow, BitVec.getLsbD_allOnes] at t
    simpa [hj] using t.symm
  · intro h
    apply BitVec.eq_of_getLsbD_eq
    intro i hi
    rw [BitVec.getLsbD_and, BitVec.getLsbD_xor, BitVec.getLsbD_twoPow, BitVec.getLsbD_allOnes]
    by_cases e : j = i
    · subst e; rw [h, Bool.false_and]
    · simp [e, hi]
/-! ===== lN n to 2^64: shifts, and, or, masks, one bit ===== -/
theorem wb_tb (n : Nat) : (lN n).toBitVec = BitVec.ofNat 64 n := rfl
theorem wb_inj {a b : Int64} (h : a.toBitVec = b.toBitVec) : a = b := Int64.toBitVec_inj.mp h
theorem wb_tn {n : Nat} (h : n < 2 ^ 64) : (lN n).toBitVec.toNat = n := by rw [wb_tb, BitVec.toNat_ofNat, Nat.mod_eq_of_lt h]
theorem wb_of (x : Int64) : ∃ n, n < 2 ^ 64 ∧ x = lN n := ⟨x.toBitVec.toNat, x.toBitVec.isLt, wb_inj (by rw [wb_tb]; simp)⟩
theorem wb_of32 (x : Int32) : ∃ n, n < 2 ^ 32 ∧ x = nI n := ⟨x.toBitVec.toNat, x.toBitVec.isLt, Int32.toBitVec_inj.mp (by show _ = BitVec.ofNat 32 _; simp)⟩
theorem wb_c : ∀ k, k < 64 → ((nI k).toInt64 &&& 63) = lN k := by decide +kernel
theorem wb_cu : ∀ k, k < 64 → ((nI k).toInt64.toUInt64 &&& Int64.toUInt64 63) = UInt64.ofNat k := by decide +kernel
theorem wb_sm : ∀ k, k < 64 → (BitVec.ofNat 64 k).smod 64 = BitVec.ofNat 64 k := by decide +kernel
theorem wb_pw {a b : Nat} (h : a ≤ b) : 2 ^ b = 2 ^ a * 2 ^ (b - a) := by rw [← Nat.pow_add]; congr 1; omega
theorem wb_lt2 {a b : Nat} (h : a < b) : 2 ^ a < 2 ^ b := Nat.pow_lt_pow_right (by decide) h
theorem wb_mod (n : Nat) : lN n = lN (n % 2 ^ 64) := wb_inj (by rw [wb_tb, wb_tb]; apply BitVec.eq_of_toNat_eq; rw [BitVec.toNat_ofNat, BitVec.toNat_ofNat, Nat.mod_mod])
theorem wb_shr {n k : Nat} (hn : n < 2 ^ 64) (hk : k < 64) : ((lN n).toUInt64 >>> ((nI k).toInt64.toUInt64 &&& Int64.toUInt64 63)).toInt64 = lN (n / 2 ^ k) := by
  rw [wb_cu k hk]
  apply wb_inj
  apply BitVec.eq_of_toNat_eq
  show ((lN n).toUInt64 >>> UInt64.ofNat k).toNat = (BitVec.ofNat 64 _).toNat
  have h1 : (UInt64.ofNat k).toNat = k := by
    show (BitVec.ofNat 64 k).toNat = k
    rw [BitVec.toNat_ofNat, Nat.mod_eq_of_lt (by omega)]
  have h2 : (lN n).toUInt64.toNat = n := wb_tn hn
  rw [UInt64.toNat_shiftRight, h1, h2, Nat.mod_eq_of_lt hk, Nat.shiftRight_eq_div_pow, BitVec.toNat_ofNat, Nat.mod_eq_of_lt (Nat.lt_of_le_of_lt (Nat.div_le_self _ _) hn)]
theorem wb_shl (n : Nat) {k : Nat} (hk : k < 64) : lN n <<< ((nI k).toInt64 &&& 63) = lN (n * 2 ^ k) := by
  rw [wb_c k hk]
  apply wb_inj
  rw [Int64.toBitVec_shiftLeft, wb_tb, wb_tb, wb_tb, wb_sm k hk]
  apply BitVec.eq_of_toNat_eq
  rw [BitVec.shiftLeft_eq', BitVec.toNat_shiftLeft, BitVec.toNat_ofNat, BitVec.toNat_ofNat, BitVec.toNat_ofNat, Nat.mod_eq_of_lt (show k < 2 ^ 64 by omega), Nat.shiftLeft_eq, Nat.mul_mod, Nat.mod_mod, ← Nat.mul_mod]
theorem wb_and {a b : Nat} (ha : a < 2 ^ 64) (hb : b < 2 ^ 64) : lN a &&& lN b = lN (a &&& b) := by
  apply wb_inj
  rw [Int64.toBitVec_and, wb_tb, wb_tb, wb_tb]
  apply BitVec.eq_of_toNat_eq
  rw [BitVec.toNat_and, BitVec.toNat_ofNat, BitVec.toNat_ofNat, BitVec.toNat_ofNat, Nat.mod_eq_of_lt ha, Nat.mod_eq_of_lt hb, Nat.mod_eq_of_lt (Nat.and_lt_two_pow _ hb)]
theorem wb_or {a b : Nat} (ha : a < 2 ^ 64) (hb : b < 2 ^ 64) : lN a ||| lN b = lN (a ||| b) := by
  apply wb_inj
  rw [Int64.toBitVec_or, wb_tb, wb_tb, wb_tb]
  apply BitVec.eq_of_toNat_eq
  rw [BitVec.toNat_or, BitVec.toNat_ofNat, BitVec.toNat_ofNat, BitVec.toNat_ofNat, Nat.mod_eq_of_lt ha, Nat.mod_eq_of_lt hb, Nat.mod_eq_of_lt (Nat.or_lt_two_pow ha hb)]
theorem wb_mask {n k : Nat} (hn : n < 2 ^ 64) (hk : k < 64) : lN n &&& lN (2 ^ k - 1) = lN (n % 2 ^ k) := by
  rw [wb_and hn (by have := wb_lt2 hk; omega), Nat.and_two_pow_sub_one_eq_mod]
theorem wb_a1 {n : Nat} (hn : n < 2 ^ 64) : lN n &&& 1 = lN (n % 2) := wb_mask (k := 1) hn (by decide)
theorem wb_bit {n k : Nat} (hn : n < 2 ^ 64) (hk : k < 64) : ((lN n).toUInt64 >>> ((nI k).toInt64.toUInt64 &&& Int64.toUInt64 63)).toInt64 &&& 1 = lN (n / 2 ^ k % 2) := by
  rw [wb_shr hn hk, wb_a1 (Nat.lt_of_le_of_lt (Nat.div_le_self _ _) hn)]
theorem wb_xor {q k : Nat} (hk : k < 63) (h : 2 ^ k ≤ q) (h2 : q < 2 ^ (k + 1)) : lN q ^^^ lN (2 ^ k) = lN (q - 2 ^ k) := by
  obtain ⟨r, rfl⟩ : ∃ r, q = 2 ^ k + r := ⟨q - 2 ^ k, by omega⟩
  have hr : r < 2 ^ k := by rw [Nat.pow_succ] at h2; omega
  have hx : (2 ^ k + r) ^^^ 2 ^ k = r := by
    apply Nat.eq_of_testBit_eq
    intro i
    rw [Nat.testBit_xor, Nat.testBit_two_pow]
    rcases Nat.lt_trichotomy i k with h | h | h
    · rw [Nat.testBit_two_pow_add_gt h]
      simp [show ¬ k = i by omega]
    · subst h
      rw [Nat.testBit_two_pow_add_eq]
      simp
    · have a1 : 2 ^ (k + 1) ≤ 2 ^ i := Nat.pow_le_pow_right (by decide) h
      rw [Nat.testBit_lt_two_pow (show 2 ^ k + r < 2 ^ i by omega), Nat.testBit_lt_two_pow (show r < 2 ^ i by omega)]
      simp [show ¬ k = i by omega]
  have b1 := wb_lt2 (show k + 1 < 64 by omega)
  have b2 := wb_lt2 (show k < 64 by omega)
  apply wb_inj
  rw [Int64.toBitVec_xor, wb_tb, wb_tb, wb_tb]
  apply BitVec.eq_of_toNat_eq
  rw [BitVec.toNat_xor, BitVec.toNat_ofNat, BitVec.toNat_ofNat, BitVec.toNat_ofNat, Nat.mod_eq_of_lt (by omega : 2 ^ k + r < 2 ^ 64), Nat.mod_eq_of_lt b2, hx, Nat.add_sub_cancel_left, Nat.mod_eq_of_lt (by omega)]
/-! ===== lN: masks, 'or' of parts that don't overlap is a sum ===== -/
theorem u_tn {n : Nat} (h : n < 2 ^ 64) : (UInt64.ofNat n).toNat = n := Nat.mod_eq_of_lt h
theorem g_and {a b c : Nat} (ha : a < 2 ^ 64) (hb : b < 2 ^ 64) (hc : a &&& b = c) : lN a &&& lN b = lN c := by
  subst hc
  have h : UInt64.ofNat a &&& UInt64.ofNat b = UInt64.ofNat (a &&& b) := UInt64.toNat_inj.mp (by rw [UInt64.toNat_and, u_tn ha, u_tn hb, u_tn (Nat.and_lt_two_pow a hb)])
  have h2 := congrArg UInt64.toInt64 h
  exact h2
theorem g_and1 {a : Nat} (ha : a < 2 ^ 64) : lN a &&& 1 = lN (a % 2) := g_and (b := 1) ha (by decide) (Nat.and_two_pow_sub_one_eq_mod a 1)
theorem g_mask {a s p : Nat} (hp : 2 ^ s = p) (hs : s < 64) (ha : a < 2 ^ 64) : lN a &&& lN (p - 1) = lN (a % p) := by
  subst hp
  have := Nat.pow_lt_pow_right (show 1 < 2 by decide) hs
  exact g_and ha (by omega) (Nat.and_two_pow_sub_one_eq_mod a s)
theorem g_or {k p a b : Nat} (hp : 2 ^ k = p) (ha : a < p) (h : b * p + a < 2 ^ 64) : lN (b * p) ||| lN a = lN (b * p + a) := by
  subst hp
  have h1 : b * 2 ^ k ||| a = b * 2 ^ k + a := by rw [← Nat.shiftLeft_eq, Nat.shiftLeft_add_eq_or_of_lt ha]
  have h3 : UInt64.ofNat (b * 2 ^ k) ||| UInt64.ofNat a = UInt64.ofNat (b * 2 ^ k + a) := UInt64.toNat_inj.mp (by rw [UInt64.toNat_or, u_tn (by omega), u_tn (by omega), u_tn h, h1])
  have h2 := congrArg UInt64.toInt64 h3
  exact h2
theorem g_or' {k p a b : Nat} (hp : 2 ^ k = p) (ha : a < p) (h : a + b * p < 2 ^ 64) : lN a ||| lN (b * p) = lN (a + b * p) := by
  rw [Int64.or_comm, g_or hp ha (by omega), Nat.add_comm]
theorem g_ushr {a k p : Nat} {y : UInt64} (hy : y = UInt64.ofNat k) (hk : k < 64) (hp : 2 ^ k = p) (ha : a < 2 ^ 64) : ((lN a).toUInt64 >>> y).toInt64 = lN (a / p) := by
  subst hy hp
  have h : UInt64.ofNat a >>> UInt64.ofNat k = UInt64.ofNat (a / 2 ^ k) := UInt64.toNat_inj.mp (by rw [UInt64.toNat_shiftRight, u_tn ha, u_tn (by omega), u_tn (Nat.lt_of_le_of_lt (Nat.div_le_self _ _) ha), Nat.mod_eq_of_lt hk, Nat.shiftRight_eq_div_pow])
  have h2 := congrArg UInt64.toInt64 h
  exact h2
theorem g_shl {a k p : Nat} {y : Int64} (hy : y.toBitVec.smod 64 = BitVec.ofNat 64 k) (hk : k < 64) (hp : 2 ^ k = p) (ha : a < 2 ^ 64) : lN a <<< y = lN (a * p) := by
  subst hp
  apply Int64.toBitVec_inj.mp
  rw [Int64.toBitVec_shiftLeft, hy]
  apply BitVec.eq_of_toNat_eq
  have hb : (lN a).toBitVec.toNat = a := Nat.mod_eq_of_lt ha
  have hk' : (BitVec.ofNat 64 k).toNat = k := Nat.mod_eq_of_lt (by omega)
  have h : ((lN a).toBitVec <<< BitVec.ofNat 64 k).toNat = (a * 2 ^ k) % 2 ^ 64 := by simp only [BitVec.shiftLeft_eq', BitVec.toNat_shiftLeft, hb, hk', Nat.shiftLeft_eq]
  exact h
/-! ===== lN to 2^62 under >> and >>> ===== -/
theorem pf_lI {a : Nat} (h : a < 2 ^ 63) : (lN a).toInt = (a : Int) := lg_ofNat_toInt h
theorem pf_shr {a d : Nat} {D : Int64} (hD : (D.toBitVec.smod 64).toNat = d) (h : a < 2 ^ 62) : lN a >>> D = lN (a / 2 ^ d) := by
  have hd : a / 2 ^ d ≤ a := Nat.div_le_self _ _
  apply Int64.toInt_inj.mp
  have e : (lN a >>> D).toInt = (lN a).toInt >>> d := by
    rw [← hD]
    exact BitVec.toInt_sshiftRight ..
  rw [e, Int.shiftRight_eq_div_pow, pf_lI (by omega), pf_lI (by omega)]
  rfl
theorem pf_ushr {a d : Nat} {D : UInt64} (hD : D.toNat % 64 = d) (h : a < 2 ^ 62) : ((lN a).toUInt64 >>> D).toInt64 = lN (a / 2 ^ d) := by
  have hd : a / 2 ^ d ≤ a := Nat.div_le_self _ _
  have e : (lN a).toUInt64 >>> D = UInt64.ofNat (a / 2 ^ d) := UInt64.toNat_inj.mp (by
    rw [UInt64.toNat_shiftRight, hD, Nat.shiftRight_eq_div_pow, UInt64.toNat_ofNat']
    show (UInt64.ofNat a).toNat / 2 ^ d = _
    rw [UInt64.toNat_ofNat', Nat.mod_eq_of_lt (by omega), Nat.mod_eq_of_lt (by omega)])
  rw [e]
  rfl
theorem pf_andw (x : Int64) : ∃ m, m < 2 ^ 32 ∧ x &&& 4294967295 = lN m := ⟨x.toBitVec.toNat % 2 ^ 32, Nat.mod_lt _ (by decide), Int64.toBitVec_inj.mp (BitVec.eq_of_toNat_eq (by
  show (x.toBitVec &&& 4294967295#64).toNat = (BitVec.ofNat 64 (x.toBitVec.toNat % 2 ^ 32)).toNat
  rw [BitVec.toNat_and, show (4294967295#64).toNat = 2 ^ 32 - 1 from by decide, Nat.and_two_pow_sub_one_eq_mod, BitVec.toNat_ofNat]
  omega))⟩
/-! ===== Int64 as an unsigned number: uN x ===== -/
def uN (x : Int64) : Nat := x.toUInt64.toNat
theorem uN_lt (x : Int64) : uN x < 18446744073709551616 := x.toUInt64.toNat_lt
theorem uN_inj {x y : Int64} (h : uN x = uN y) : x = y := congrArg UInt64.toInt64 (UInt64.toNat_inj.mp h)
theorem uN_add (x y : Int64) : uN (x + y) = (uN x + uN y) % 18446744073709551616 := by
  show (x.toUInt64 + y.toUInt64).toNat = _
  exact UInt64.toNat_add _ _
theorem uN_mul (x y : Int64) : uN (x * y) = (uN x * uN y) % 18446744073709551616 := by
  show (x.toUInt64 * y.toUInt64).toNat = _
  exact UInt64.toNat_mul _ _
theorem uN_shl (x : Int64) : uN (x <<< ((1 : Int32).toInt64 &&& 63)) = (2 * uN x) % 18446744073709551616 := by
  have h : (((1 : Int32).toInt64 &&& 63).toBitVec.smod 64).toNat = 1 := by decide
  show (x.toBitVec <<< (((1 : Int32).toInt64 &&& 63).toBitVec.smod 64).toNat).toNat = _
  rw [h, BitVec.toNat_shiftLeft, Nat.shiftLeft_eq, Nat.mul_comm]
  rfl
theorem uN_shr (x : Int64) (s : UInt64) : uN (x.toUInt64 >>> s).toInt64 = uN x / 2 ^ (s.toNat % 64) := by
  show (x.toUInt64 >>> s).toNat = _
  rw [UInt64.toNat_shiftRight, Nat.shiftRight_eq_div_pow]
  rfl
theorem uN_s32 (x : Int64) : uN (x.toUInt64 >>> ((32 : Int32).toInt64.toUInt64 &&& Int64.toUInt64 63)).toInt64 = uN x / 4294967296 := by
  have h : ((32 : Int32).toInt64.toUInt64 &&& Int64.toUInt64 63).toNat % 64 = 32 := by decide
  rw [uN_shr, h]
theorem uN_s63 (x : Int64) : uN (x.toUInt64 >>> ((63 : Int32).toInt64.toUInt64 &&& Int64.toUInt64 63)).toInt64 = uN x / 9223372036854775808 := by
  have h : ((63 : Int32).toInt64.toUInt64 &&& Int64.toUInt64 63).toNat % 64 = 63 := by decide
  rw [uN_shr, h]
theorem uN_lo (x : Int64) : uN (x &&& 4294967295) = uN x % 4294967296 := by
  show (x.toUInt64 &&& Int64.toUInt64 4294967295).toNat = _
  rw [UInt64.toNat_and]
  exact Nat.and_two_pow_sub_one_eq_mod _ 32
theorem uN_bit (x : Int64) : (x &&& 1) = 0 ↔ uN x % 2 = 0 := by
  have h : uN (x &&& 1) = uN x % 2 := by
    show (x.toUInt64 &&& Int64.toUInt64 1).toNat = _
    rw [UInt64.toNat_and]
    exact Nat.and_two_pow_sub_one_eq_mod _ 1
  rw [← h]
  exact ⟨fun z => by rw [z]; rfl, fun z => uN_inj (z.trans rfl)⟩
theorem uN_or {x y : Int64} (hy : uN y < 2) : uN ((x <<< ((1 : Int32).toInt64 &&& 63)) ||| y) = (2 * uN x) % 18446744073709551616 + uN y := by
  have h1 : uN ((x <<< ((1 : Int32).toInt64 &&& 63)) ||| y) = uN (x <<< ((1 : Int32).toInt64 &&& 63)) ||| uN y := UInt64.toNat_or _ _
  have h2 : (2 * uN x) % 18446744073709551616 = 2 ^ 1 * (uN x % 9223372036854775808) := by omega
  rw [h1, uN_shl, h2]
  exact (Nat.two_pow_add_eq_or_of_lt (i := 1) hy _).symm
theorem nat_xor {a : Nat} (h : a < 18446744073709551616) : a ^^^ 2 ^ 63 = (a + 9223372036854775808) % 18446744073709551616 := by
  have h1 : (a ^^^ 2 ^ 63) % 2 ^ 63 = a % 2 ^ 63 := by rw [Nat.xor_mod_two_pow, Nat.mod_self, Nat.xor_zero]
  have h2 : (a ^^^ 2 ^ 63) / 2 ^ 63 = (a / 2 ^ 63) ^^^ 1 := by rw [Nat.xor_div_two_pow, Nat.div_self (Nat.two_pow_pos 63)]
  have h3 : a / 2 ^ 63 = 0 ∨ a / 2 ^ 63 = 1 := by omega
  generalize a ^^^ 2 ^ 63 = t at h1 h2
  rcases h3 with h3 | h3
  · rw [h3] at h2
    have h2 : t / 2 ^ 63 = 1 := h2
    omega
  · rw [h3] at h2
    have h2 : t / 2 ^ 63 = 0 := h2
    omega
theorem uN_xor (x : Int64) : uN (x ^^^ (-9223372036854775808)) = (uN x + 9223372036854775808) % 18446744073709551616 := by
  rw [← nat_xor (uN_lt x)]
  exact UInt64.toNat_xor _ _
theorem uN_int (x : Int64) : x.toInt = if 2 * uN x < 18446744073709551616 then (uN x : Int) else (uN x : Int) - 18446744073709551616 := BitVec.toInt_eq_toNat_cond _
theorem uN_le (x y : Int64) : (x ^^^ (-9223372036854775808)) ≤ (y ^^^ (-9223372036854775808)) ↔ uN x ≤ uN y := by
  have hx := uN_lt x
  have hy := uN_lt y
  rw [Int64.le_iff_toInt_le, uN_int, uN_int, uN_xor, uN_xor]
  omega
theorem uN_sk (x : Int64) {k : Nat} (hk : k < 64) : uN (x.toUInt64 >>> ((nI k).toInt64.toUInt64 &&& Int64.toUInt64 63)).toInt64 = uN x / 2 ^ k := by
  have h : ((nI k).toInt64.toUInt64 &&& Int64.toUInt64 63).toNat % 64 = k := by
    rw [nI_l (by omega), UInt64.toNat_and]
    have e : (lN k).toUInt64.toNat = k % 2 ^ 64 := rfl
    have e2 : (Int64.toUInt64 63).toNat = 2 ^ 6 - 1 := by decide
    rw [e, e2, Nat.and_two_pow_sub_one_eq_mod]
    omega
  rw [uN_shr, h]
/-! ===== unsigned comparison by xor with the least ===== -/
theorem lN_bv (n : Nat) : (lN n).toBitVec = BitVec.ofNat 64 n := rfl
theorem lN_nat {n : Nat} (h : n < 2 ^ 64) : (lN n).toBitVec.toNat = n := by rw [lN_bv, BitVec.toNat_ofNat]; exact Nat.mod_eq_of_lt h
theorem lN_xor (a b : Nat) : lN a ^^^ lN b = lN (a ^^^ b) := by
  apply Int64.toBitVec_inj.mp; rw [Int64.toBitVec_xor, lN_bv, lN_bv, lN_bv]; apply BitVec.eq_of_getLsbD_eq; intro i hi; simp [BitVec.getLsbD_ofNat, Nat.testBit_xor, hi]
theorem lN_ti {m : Nat} (h : m < 2 ^ 64) : (lN m).toInt = if m < 2 ^ 63 then (m : Int) else (m : Int) - 2 ^ 64 := by
  have c := BitVec.toInt_eq_toNat_cond (lN m).toBitVec
  rw [lN_nat h] at c
  show (lN m).toBitVec.toInt = _
  rw [c]
  split <;> split <;> omega
theorem xor63 {x : Nat} (h : x < 2 ^ 63) : x ^^^ 2 ^ 63 = 2 ^ 63 + x := by
  apply Nat.eq_of_testBit_eq
  intro i
  rw [Nat.testBit_xor, Nat.testBit_two_pow]
  rcases Nat.lt_trichotomy i 63 with z | z | z
  · rw [Nat.testBit_two_pow_add_gt z, decide_eq_false (by omega)]; simp
  · subst z; rw [Nat.testBit_two_pow_add_eq]; simp
  · have hp : 2 ^ 64 ≤ 2 ^ i := Nat.pow_le_pow_right (by decide) z
    rw [Nat.testBit_lt_two_pow (show x < 2 ^ i by omega), Nat.testBit_lt_two_pow (show 2 ^ 63 + x < 2 ^ i by omega), decide_eq_false (by omega)]; rfl
theorem xorS {a : Nat} (h : a < 2 ^ 64) : (lN a ^^^ (-9223372036854775808)).toInt = (a : Int) - 2 ^ 63 := by
  rw [show (-9223372036854775808 : Int64) = lN (2 ^ 63) from by decide +kernel, lN_xor]
  rcases Nat.lt_or_ge a (2 ^ 63) with z | z
  · rw [xor63 z, lN_ti (by omega), if_neg (by omega)]; omega
  · obtain ⟨x, rfl⟩ : ∃ x, a = 2 ^ 63 + x := ⟨a - 2 ^ 63, by omega⟩
    rw [← xor63 (by omega), Nat.xor_assoc, Nat.xor_self, Nat.xor_zero, lN_ti (by omega), if_pos (by omega), xor63 (by omega)]; omega
theorem ultL {a b : Nat} (ha : a < 2 ^ 64) (hb : b < 2 ^ 64) : ((lN b ^^^ (-9223372036854775808)) ≤ (lN a ^^^ (-9223372036854775808))) ↔ b ≤ a := by
  rw [Int64.le_iff_toInt_le, xorS ha, xorS hb]; omega
/-! ===== Int64 masks of n low bits ===== -/
theorem cr_bits (W U M : BitVec 64) : ((W &&& U) &&& (U &&& (M ^^^ BitVec.allOnes 64))) = 0#64 ↔ (W &&& U) &&& M = W &&& U := by
  constructor
  · intro h
    apply BitVec.eq_of_getLsbD_eq
    intro i hi
    have e := congrArg (fun x => BitVec.getLsbD x i) h
    simp only [BitVec.getLsbD_and, BitVec.getLsbD_xor, BitVec.getLsbD_allOnes, BitVec.getLsbD_zero, hi, decide_true] at e ⊢
    revert e
    cases W.getLsbD i <;> cases U.getLsbD i <;> cases M.getLsbD i <;> decide
  · intro h
    apply BitVec.eq_of_getLsbD_eq
    intro i hi
    have e := congrArg (fun x => BitVec.getLsbD x i) h
    simp only [BitVec.getLsbD_and, BitVec.getLsbD_xor, BitVec.getLsbD_allOnes, BitVec.getLsbD_zero, hi, decide_true] at e ⊢
    revert e
    cases W.getLsbD i <;> cases U.getLsbD i <;> cases M.getLsbD i <;> decide
theorem cr_mask (w U m : Int64) (n : Nat) (hm : m.toBitVec.toNat = 2 ^ n - 1) : ((w &&& U) &&& (U &&& (m ^^^ (-1)))) = 0 ↔ (w &&& U).toBitVec.toNat < 2 ^ n := by
  have e0 : (-1 : Int64).toBitVec = BitVec.allOnes 64 := by decide
  have z0 : (0 : Int64).toBitVec = 0#64 := by decide
  rw [← Int64.toBitVec_inj, z0, Int64.toBitVec_and, Int64.toBitVec_and, Int64.toBitVec_and, Int64.toBitVec_xor, e0, cr_bits]
  generalize w.toBitVec &&& U.toBitVec = T
  rw [← BitVec.toNat_inj, BitVec.toNat_and, hm, Nat.and_two_pow_sub_one_eq_mod]
  constructor
  · intro h
    have t := Nat.mod_lt T.toNat (Nat.two_pow_pos n)
    rw [h] at t
    exact t
  · exact Nat.mod_eq_of_lt
theorem cr_shr (t : Int64) (x : UInt64) (n : Nat) (hx : x.toNat % 64 = n) : (t.toUInt64 >>> x).toInt64 = 0 ↔ t.toBitVec.toNat < 2 ^ n := by
  rw [← Int64.toBitVec_inj, ← BitVec.toNat_inj]
  show (t.toUInt64 >>> x).toNat = 0 ↔ t.toUInt64.toNat < 2 ^ n
  rw [UInt64.toNat_shiftRight, hx, Nat.shiftRight_eq_div_pow]
  constructor
  · intro h
    have d : t.toUInt64.toNat / 2 ^ n < 1 := by
      rw [h]
      decide
    have e := (Nat.div_lt_iff_lt_mul (Nat.two_pow_pos n)).mp d
    rw [Nat.one_mul] at e
    exact e
  · exact Nat.div_eq_of_lt
theorem cr_amt (s : Int64) : ∃ n, n < 64 ∧ s &&& 63 = lN n ∧ (s.toUInt64 &&& Int64.toUInt64 63).toNat % 64 = n := by
  have e : (s.toUInt64 &&& Int64.toUInt64 63).toNat = s.toUInt64.toNat % 2 ^ 6 := by
    rw [UInt64.toNat_and, show (Int64.toUInt64 63).toNat = 2 ^ 6 - 1 from by decide, Nat.and_two_pow_sub_one_eq_mod]
  refine ⟨s.toUInt64.toNat % 2 ^ 6, by omega, ?_, by omega⟩
  rw [← Int64.toBitVec_inj, ← BitVec.toNat_inj]
  show (s.toUInt64 &&& Int64.toUInt64 63).toNat = (BitVec.ofNat 64 (s.toUInt64.toNat % 2 ^ 6)).toNat
  rw [e, BitVec.toNat_ofNat]
  omega
end
section
/-! sums and counts below a bound -/
noncomputable def cs_s (f : Nat → Nat) (n : Nat) : Nat := Nat.rec 0 (fun k r => r + f k) n
theorem cs_s0 (f : Nat → Nat) : cs_s f 0 = 0 := rfl
theorem cs_s1 (f : Nat → Nat) (n : Nat) : cs_s f (n + 1) = cs_s f n + f n := rfl
noncomputable def cs_c (p : Nat → Bool) (n : Nat) : Nat := cs_s (fun k => (p k).toNat) n
theorem cs_c0 (p : Nat → Bool) : cs_c p 0 = 0 := rfl
theorem cs_c1 (p : Nat → Bool) (n : Nat) : cs_c p (n + 1) = cs_c p n + (p n).toNat := rfl
theorem cs_congr {f g : Nat → Nat} {n : Nat} (h : ∀ k, k < n → f k = g k) : cs_s f n = cs_s g n := by
  induction n with
  | zero => rfl
  | succ n ih => rw [cs_s1, cs_s1, ih (fun k hk => h k (by omega)), h n (by omega)]
theorem cs_ccongr {p q : Nat → Bool} {n : Nat} (h : ∀ k, k < n → p k = q k) : cs_c p n = cs_c q n := cs_congr fun k hk => by rw [h k hk]
theorem cs_add (f g : Nat → Nat) (n : Nat) : cs_s (fun k => f k + g k) n = cs_s f n + cs_s g n := by
  induction n with
  | zero => rfl
  | succ n ih => rw [cs_s1, cs_s1, cs_s1, ih]; omega
theorem cs_mul (c : Nat) (f : Nat → Nat) (n : Nat) : cs_s (fun k => c * f k) n = c * cs_s f n := by
  induction n with
  | zero => rfl
  | succ n ih => rw [cs_s1, cs_s1, ih, Nat.mul_add]
theorem cs_const (c n : Nat) : cs_s (fun _ => c) n = n * c := by
  induction n with
  | zero => rw [cs_s0, Nat.zero_mul]
  | succ n ih => rw [cs_s1, ih, Nat.succ_mul]
theorem cs_zero {f : Nat → Nat} {n : Nat} (h : ∀ k, k < n → f k = 0) : cs_s f n = 0 := by
  rw [cs_congr h, cs_const, Nat.mul_zero]
theorem cs_czero {p : Nat → Bool} {n : Nat} (h : ∀ k, k < n → p k = false) : cs_c p n = 0 := cs_zero fun k hk => by rw [h k hk]; rfl
theorem cs_swap (f : Nat → Nat → Nat) (n N : Nat) : cs_s (fun x => cs_s (fun k => f k x) n) N = cs_s (fun k => cs_s (fun x => f k x) N) n := by
  induction n with
  | zero =>
    show cs_s (fun _ => 0) N = 0
    rw [cs_const, Nat.mul_zero]
  | succ n ih =>
    show cs_s (fun x => cs_s (fun k => f k x) n + f n x) N = cs_s (fun k => cs_s (fun x => f k x) N) n + cs_s (fun x => f n x) N
    rw [cs_add, ih]
theorem cs_le {f g : Nat → Nat} {n : Nat} (h : ∀ k, k < n → f k ≤ g k) : cs_s f n ≤ cs_s g n := by
  induction n with
  | zero => exact Nat.le_refl _
  | succ n ih =>
    have a := ih (fun k hk => h k (by omega))
    have b := h n (by omega)
    rw [cs_s1, cs_s1]; omega
theorem cs_bt (b : Bool) : b.toNat ≤ 1 := by cases b <;> decide
theorem cs_cle (p : Nat → Bool) (n : Nat) : cs_c p n ≤ n := by
  have h := cs_le (f := fun k => (p k).toNat) (g := fun _ => 1) (n := n) (fun k _ => cs_bt _)
  rw [cs_const, Nat.mul_one] at h
  exact h
theorem cs_call (n : Nat) : cs_c (fun _ => true) n = n := by
  show cs_s (fun _ => 1) n = n
  rw [cs_const, Nat.mul_one]
theorem cs_beqf {a b : Nat} (h : a ≠ b) : (a == b) = false := beq_eq_false_iff_ne.mpr h
theorem cs_beqt {a b : Nat} (h : a = b) : (a == b) = true := beq_iff_eq.mpr h
theorem cs_rm {q : Nat → Bool} {j m : Nat} (hj : j < m) (hq : q j = true) : cs_c q m = cs_c (fun i => q i && !(i == j)) m + 1 := by
  induction m with
  | zero => omega
  | succ m ih =>
    by_cases h : j = m
    · subst h
      have e : cs_c (fun i => q i && !(i == j)) j = cs_c q j := cs_ccongr fun k hk => by
        show (q k && !(k == j)) = q k
        rw [cs_beqf (show k ≠ j by omega)]; simp
      rw [cs_c1, cs_c1, e, hq, cs_beqt rfl]
      rfl
    · have e := ih (by omega)
      rw [cs_c1, cs_c1, e, cs_beqf (show m ≠ j by omega)]
      have e2 : (q m && !false) = q m := by simp
      rw [e2]; omega
theorem cs_inj {n m : Nat} {p : Nat → Bool} (R : Nat → Nat → Prop) (h2 : ∀ k k' j, k < n → k' < n → p k = true → p k' = true → R k j → R k' j → k = k') : ∀ q : Nat → Bool, (∀ k, k < n → p k = true → ∃ j, j < m ∧ q j = true ∧ R k j) → cs_c p n ≤ cs_c q m := by
  induction n with
  | zero => intro q _; exact Nat.zero_le _
  | succ n ih =>
    intro q h1
    have ih' := ih (fun k k' j hk hk' => h2 k k' j (by omega) (by omega))
    cases hp : p n with
    | false =>
      rw [cs_c1, hp]
      exact ih' q (fun k hk => h1 k (by omega))
    | true =>
      obtain ⟨j, hj, hq, hR⟩ := h1 n (by omega) hp
      have hx := ih' (fun i => q i && !(i == j)) (fun k hk hpk => by
        obtain ⟨j', hj', hq', hR'⟩ := h1 k (by omega) hpk
        have hne : j' ≠ j := fun e => by
          subst e
          have := h2 k n j' (by omega) (by omega) hpk hp hR' hR
          omega
        refine ⟨j', hj', ?_, hR'⟩
        show (q j' && !(j' == j)) = true
        rw [hq', cs_beqf hne]; rfl)
      rw [cs_c1, hp, cs_rm hj hq]
      exact Nat.succ_le_succ hx
/-- as many on both sides -/
theorem cs_bij {n m : Nat} {p q : Nat → Bool} (R : Nat → Nat → Prop) (h1 : ∀ k, k < n → p k = true → ∃ j, j < m ∧ q j = true ∧ R k j) (h2 : ∀ j, j < m → q j = true → ∃ k, k < n ∧ p k = true ∧ R k j) (i1 : ∀ k k' j, k < n → k' < n → R k j → R k' j → k = k') (i2 : ∀ k j j', j < m → j' < m → R k j → R k j' → j = j') : cs_c p n = cs_c q m := by
  apply Nat.le_antisymm
  · exact cs_inj R (fun k k' j hk hk' _ _ a b => i1 k k' j hk hk' a b) q h1
  · exact cs_inj (fun j k => R k j) (fun j j' k hj hj' _ _ a b => i2 k j j' hj hj' a b) p h2
/-- n things below m, all different -/
theorem cs_pig {n m : Nat} (f : Nat → Nat) (hf : ∀ k, k < n → f k < m) (hi : ∀ k k', k < n → k' < n → f k = f k' → k = k') : n ≤ m := by
  have h := cs_inj (n := n) (m := m) (p := fun _ => true) (fun k j => f k = j) (fun k k' j hk hk' _ _ a b => hi k k' hk hk' (a.trans b.symm)) (fun _ => true) (fun k hk _ => ⟨f k, hf k hk, rfl, rfl⟩)
  rw [cs_call, cs_call] at h
  exact h
theorem cs_sur {n : Nat} (f : Nat → Nat) (hf : ∀ k, k < n → f k < n) (hi : ∀ k k', k < n → k' < n → f k = f k' → k = k') : ∀ j, j < n → ∃ k, k < n ∧ f k = j := by
  intro j hj
  apply Classical.byContradiction
  intro hno
  have h := cs_inj (n := n) (m := n) (p := fun _ => true) (fun k j => f k = j) (fun k k' j hk hk' _ _ a b => hi k k' hk hk' (a.trans b.symm)) (fun i => true && !(i == j)) (fun k hk _ => ⟨f k, hf k hk, by
    have hne : f k ≠ j := fun e => hno ⟨k, hk, e⟩
    show (true && !(f k == j)) = true
    rw [cs_beqf hne]; rfl, rfl⟩)
  have h3 := cs_rm (q := fun _ => true) hj rfl
  rw [cs_call] at h h3
  omega
theorem cs_pick {n a : Nat} (F : Nat → Nat) (h : a < n) : cs_s (fun j => (a == j).toNat * F j) n = F a := by
  induction n with
  | zero => omega
  | succ n ih =>
    rw [cs_s1]
    by_cases e : a = n
    · subst e
      rw [cs_zero (fun k hk => by rw [cs_beqf (show a ≠ k by omega)]; exact Nat.zero_mul _), cs_beqt rfl]
      show 0 + 1 * F a = F a
      omega
    · rw [ih (by omega), cs_beqf e]
      show F a + 0 * F n = F a
      omega
theorem cs_one {p : Nat → Bool} {n k0 : Nat} (h0 : k0 < n) (h : ∀ k, k < n → p k = (k0 == k)) : cs_c p n = 1 := by
  rw [cs_ccongr h]
  have e := cs_pick (F := fun _ => 1) h0
  have e2 : cs_c (fun k => k0 == k) n = cs_s (fun j => (k0 == j).toNat * 1) n := cs_congr fun k _ => (Nat.mul_one _).symm
  rw [e2, e]
theorem cs_perm {n : Nat} (f : Nat → Nat) (hf : ∀ k, k < n → f k < n) (hi : ∀ k k', k < n → k' < n → f k = f k' → k = k') (F : Nat → Nat) : cs_s (fun k => F (f k)) n = cs_s F n := by
  have a : cs_s (fun k => F (f k)) n = cs_s (fun k => cs_s (fun j => (f k == j).toNat * F j) n) n := cs_congr fun k hk => (cs_pick F (hf k hk)).symm
  have b := cs_swap (fun k j => (f k == j).toNat * F j) n n
  rw [a, ← b]
  apply cs_congr
  intro j hj
  obtain ⟨k0, hk0, e0⟩ := cs_sur f hf hi j hj
  have c : cs_c (fun k => f k == j) n = 1 := cs_one hk0 fun k hk => by
    by_cases e : k0 = k
    · subst e; rw [cs_beqt e0, cs_beqt rfl]
    · rw [cs_beqf e, cs_beqf]
      intro e3
      exact e (hi k0 k hk0 hk (e0.trans e3.symm))
  have d : cs_s (fun k => (f k == j).toNat * F j) n = cs_s (fun k => F j * (f k == j).toNat) n := cs_congr fun k _ => Nat.mul_comm _ _
  rw [d, cs_mul]
  show F j * cs_c (fun k => f k == j) n = F j
  rw [c, Nat.mul_one]
theorem cs_cmono {p q : Nat → Bool} {n : Nat} (h : ∀ k, k < n → p k = true → q k = true) : cs_c p n ≤ cs_c q n := cs_le fun k hk => by
  cases e : p k with
  | false => exact Nat.zero_le _
  | true => rw [h k hk e]; exact Nat.le_refl _
/-- a count by kinds: how many are of each kind, and what each kind gives -/
theorem cs_cls {n s : Nat} (g : Nat → Nat) (h : Nat → Nat) (hi : ∀ j j', j < s → j' < s → h j = h j' → j = j') (hm : ∀ k, k < n → ∃ j, j < s ∧ h j = g k) (F : Nat → Nat) : cs_s (fun j => cs_c (fun k => g k == h j) n * F (h j)) s = cs_s (fun k => F (g k)) n := by
  have a : cs_s (fun j => cs_c (fun k => g k == h j) n * F (h j)) s = cs_s (fun j => cs_s (fun k => F (g k) * (g k == h j).toNat) n) s := cs_congr fun j hj => by
    have e : cs_s (fun k => F (g k) * (g k == h j).toNat) n = cs_s (fun k => F (h j) * (g k == h j).toNat) n := cs_congr fun k _ => by
      by_cases e : g k = h j
      · rw [e]
      · rw [cs_beqf e]; show _ * 0 = _ * 0; rw [Nat.mul_zero, Nat.mul_zero]
    rw [e, cs_mul, Nat.mul_comm]; rfl
  rw [a, cs_swap (fun k j => F (g k) * (g k == h j).toNat) n s]
  apply cs_congr
  intro k hk
  obtain ⟨j0, hj0, e0⟩ := hm k hk
  rw [cs_mul]
  have c : cs_c (fun j => g k == h j) s = 1 := cs_one hj0 fun j hj => by
    by_cases e : j0 = j
    · subst e; rw [cs_beqt e0.symm, cs_beqt rfl]
    · rw [cs_beqf e, cs_beqf]
      intro e3
      exact e (hi j0 j hj0 hj (e0.trans e3))
  show F (g k) * cs_c (fun j => g k == h j) s = F (g k)
  rw [c, Nat.mul_one]
theorem cs_len (p : Nat → Bool) (n : Nat) : cs_c p n = ((List.range n).filter p).length := by
  induction n with
  | zero => rfl
  | succ n ih =>
    rw [cs_c1, ih, List.range_succ, List.filter_append, List.length_append]
    cases h : p n <;> simp [h]
theorem cs_app (f : Nat → Nat) (a b : Nat) : cs_s f (a + b) = cs_s f a + cs_s (fun y => f (a + y)) b := by
  induction b with
  | zero => rfl
  | succ b ih =>
    show cs_s f (a + b) + f (a + b) = cs_s f a + (cs_s (fun y => f (a + y)) b + f (a + b))
    rw [ih]; omega
theorem cs_blk (f : Nat → Nat) (M c : Nat) : cs_s f (c * M) = cs_s (fun d => cs_s (fun y => f (y + d * M)) M) c := by
  induction c with
  | zero => rw [Nat.zero_mul]; rfl
  | succ c ih =>
    rw [Nat.succ_mul, cs_app, ih, cs_s1]
    exact congrArg _ (cs_congr fun y _ => by rw [Nat.add_comm])
end
section
/-! an action of n things on the numbers below N that S picks: orbits, stabilisers, the average of fixed ones -/
def bu_A (n N : Nat) (S : Nat → Bool) (A : Nat → Nat → Nat) : Prop :=
  (∀ k, k < n → ∀ x, x < N → S x = true → A k x < N ∧ S (A k x) = true) ∧
  (∃ k, k < n ∧ ∀ x, x < N → S x = true → A k x = x) ∧
  (∀ l, l < n → ∃ f : Nat → Nat, (∀ k, k < n → f k < n) ∧ (∀ k k', k < n → k' < n → f k = f k' → k = k') ∧ ∀ k, k < n → ∀ x, x < N → S x = true → A (f k) x = A l (A k x)) ∧
  (∀ l, l < n → ∃ l', l' < n ∧ (∀ x, x < N → S x = true → A l' (A l x) = x) ∧ ∀ x, x < N → S x = true → A l (A l' x) = x)
noncomputable def bu_lo (A : Nat → Nat → Nat) (x n : Nat) : Nat := Nat.rec x (fun k r => if A k x < r then A k x else r) n
theorem bu_lo0 (A : Nat → Nat → Nat) (x : Nat) : bu_lo A x 0 = x := rfl
theorem bu_lo1 (A : Nat → Nat → Nat) (x n : Nat) : bu_lo A x (n + 1) = if A n x < bu_lo A x n then A n x else bu_lo A x n := rfl
theorem bu_lo_self (A : Nat → Nat → Nat) (x n : Nat) : bu_lo A x n ≤ x := by
  induction n with
  | zero => exact Nat.le_refl _
  | succ n ih =>
    rw [bu_lo1]
    split
    · omega
    · exact ih
theorem bu_lo_le (A : Nat → Nat → Nat) (x n : Nat) : ∀ k, k < n → bu_lo A x n ≤ A k x := by
  induction n with
  | zero => intro k hk; omega
  | succ n ih =>
    intro k hk
    rw [bu_lo1]
    by_cases e : k = n
    · subst e; split <;> omega
    · have := ih k (by omega)
      split <;> omega
theorem bu_lo_or (A : Nat → Nat → Nat) (x n : Nat) : bu_lo A x n = x ∨ ∃ k, k < n ∧ bu_lo A x n = A k x := by
  induction n with
  | zero => exact Or.inl rfl
  | succ n ih =>
    rw [bu_lo1]
    split
    · exact Or.inr ⟨n, by omega, rfl⟩
    · rcases ih with h | ⟨k, hk, h⟩
      · exact Or.inl h
      · exact Or.inr ⟨k, by omega, h⟩
section
variable {n N : Nat} {S : Nat → Bool} {A : Nat → Nat → Nat}
theorem bu_in (h : bu_A n N S A) {k x : Nat} (hk : k < n) (hx : x < N) (hS : S x = true) : A k x < N ∧ S (A k x) = true := h.1 k hk x hx hS
theorem bu_mul (h : bu_A n N S A) {k l x : Nat} (hk : k < n) (hl : l < n) : ∃ j, j < n ∧ ∀ x, x < N → S x = true → A j x = A l (A k x) := by
  obtain ⟨f, f1, f2, f3⟩ := h.2.2.1 l hl
  exact ⟨f k, f1 k hk, f3 k hk⟩
theorem bu_lo_in (h : bu_A n N S A) {x : Nat} (hx : x < N) (hS : S x = true) : ∃ k, k < n ∧ bu_lo A x n = A k x := by
  rcases bu_lo_or A x n with e | e
  · obtain ⟨k, hk, hi⟩ := h.2.1
    exact ⟨k, hk, by rw [e, hi x hx hS]⟩
  · exact e
theorem bu_lo_inv (h : bu_A n N S A) {l x : Nat} (hl : l < n) (hx : x < N) (hS : S x = true) : bu_lo A (A l x) n = bu_lo A x n := by
  have hy := bu_in h hl hx hS
  apply Nat.le_antisymm
  · obtain ⟨k, hk, e⟩ := bu_lo_in h hx hS
    obtain ⟨l', hl', e1, e2⟩ := h.2.2.2 l hl
    obtain ⟨j, hj, e3⟩ := bu_mul h (x := 0) hl' hk
    have := bu_lo_le A (A l x) n j hj
    rw [e3 _ hy.1 hy.2, e1 x hx hS] at this
    omega
  · obtain ⟨k, hk, e⟩ := bu_lo_in h hy.1 hy.2
    obtain ⟨j, hj, e3⟩ := bu_mul h (x := 0) hl hk
    have := bu_lo_le A x n j hj
    rw [e3 _ hx hS] at this
    omega
/-- the same least one: one is carried to the other -/
theorem bu_same (h : bu_A n N S A) {x y : Nat} (hx : x < N) (hS : S x = true) (hy : y < N) (hT : S y = true) (e : bu_lo A y n = bu_lo A x n) : ∃ l, l < n ∧ y = A l x := by
  obtain ⟨i, hi, ei⟩ := bu_lo_in h hx hS
  obtain ⟨j, hj, ej⟩ := bu_lo_in h hy hT
  obtain ⟨j', hj', e1, e2⟩ := h.2.2.2 j hj
  obtain ⟨l, hl, e3⟩ := bu_mul h (x := 0) hi hj'
  refine ⟨l, hl, ?_⟩
  rw [e3 x hx hS, ← ei, ← e, ej, e1 y hy hT]
theorem bu_key (h : bu_A n N S A) {l x : Nat} (hl : l < n) (hx : x < N) (hS : S x = true) : cs_c (fun k => A k x == A l x) n = cs_c (fun k => A k x == x) n := by
  obtain ⟨l', hl', e1, e2⟩ := h.2.2.2 l hl
  apply Nat.le_antisymm
  · obtain ⟨f, f1, f2, f3⟩ := h.2.2.1 l' hl'
    exact cs_inj (fun k j => f k = j) (fun k k' j hk hk' _ _ a b => f2 k k' hk hk' (a.trans b.symm)) _ (fun k hk hp => ⟨f k, f1 k hk, by
      have e := beq_iff_eq.mp hp
      show (A (f k) x == x) = true
      rw [f3 k hk x hx hS, e, e1 x hx hS]
      exact cs_beqt rfl, rfl⟩)
  · obtain ⟨f, f1, f2, f3⟩ := h.2.2.1 l hl
    exact cs_inj (fun k j => f k = j) (fun k k' j hk hk' _ _ a b => f2 k k' hk hk' (a.trans b.symm)) _ (fun k hk hp => ⟨f k, f1 k hk, by
      have e := beq_iff_eq.mp hp
      show (A (f k) x == A l x) = true
      rw [f3 k hk x hx hS, e]
      exact cs_beqt rfl, rfl⟩)
theorem bu_rep (h : bu_A n N S A) {k : Nat} (hk : k < n) : cs_c (fun x => S x && A k x == bu_lo A x n) N = cs_c (fun x => S x && bu_lo A x n == x) N := by
  obtain ⟨l, hl, e1, e2⟩ := h.2.2.2 k hk
  refine cs_bij (fun x y => (S x = true ∧ S y = true ∧ A k x = y)) ?_ ?_ ?_ ?_
  · intro x hx hp
    obtain ⟨hS, e⟩ := Bool.and_eq_true_iff.mp hp
    have e := beq_iff_eq.mp e
    have hy := bu_in h hk hx hS
    refine ⟨A k x, hy.1, ?_, hS, hy.2, rfl⟩
    show (S (A k x) && bu_lo A (A k x) n == A k x) = true
    rw [hy.2, bu_lo_inv h hk hx hS, e, cs_beqt rfl]; rfl
  · intro y hy hp
    obtain ⟨hS, e⟩ := Bool.and_eq_true_iff.mp hp
    have e := beq_iff_eq.mp e
    have hz := bu_in h hl hy hS
    refine ⟨A l y, hz.1, ?_, hz.2, hS, e2 y hy hS⟩
    show (S (A l y) && A k (A l y) == bu_lo A (A l y) n) = true
    rw [hz.2, e2 y hy hS, bu_lo_inv h hl hy hS, e, cs_beqt rfl]; rfl
  · rintro x x' y hx hx' ⟨a, _, b⟩ ⟨a', _, b'⟩
    rw [← e1 x hx a, ← e1 x' hx' a', b, b']
  · rintro x y y' _ _ ⟨_, _, b⟩ ⟨_, _, b'⟩
    exact b.symm.trans b'
/-- the average: of all that are carried as t carries them -/
theorem bu_burn (h : bu_A n N S A) (t : Nat → Nat) (ht : ∀ x, x < N → S x = true → ∃ l, l < n ∧ t x = A l x) : cs_s (fun k => cs_c (fun x => S x && A k x == t x) N) n = n * cs_c (fun x => S x && bu_lo A x n == x) N := by
  have a := cs_swap (fun k x => (S x && A k x == t x).toNat) n N
  have b := cs_swap (fun k x => (S x && A k x == bu_lo A x n).toNat) n N
  have c : cs_s (fun x => cs_s (fun k => (S x && A k x == t x).toNat) n) N = cs_s (fun x => cs_s (fun k => (S x && A k x == bu_lo A x n).toNat) n) N := cs_congr fun x hx => by
    cases hS : S x with
    | false => rfl
    | true =>
      obtain ⟨l, hl, e⟩ := ht x hx hS
      obtain ⟨m, hm, e'⟩ := bu_lo_in h hx hS
      show cs_c (fun k => A k x == t x) n = cs_c (fun k => A k x == bu_lo A x n) n
      rw [e, e', bu_key h hl hx hS, bu_key h hm hx hS]
  have d : cs_s (fun k => cs_s (fun x => (S x && A k x == bu_lo A x n).toNat) N) n = cs_s (fun _ => cs_c (fun x => S x && bu_lo A x n == x) N) n := cs_congr fun k hk => bu_rep h hk
  show cs_s (fun k => cs_s (fun x => (S x && A k x == t x).toNat) N) n = _
  rw [← a, c, b, d, cs_const]
/-- the order is an orbit's size by its stabiliser's -/
theorem bu_orb (h : bu_A n N S A) {x : Nat} (hx : x < N) (hS : S x = true) : n = cs_c (fun y => S y && bu_lo A y n == bu_lo A x n) N * cs_c (fun k => A k x == x) n := by
  have a := cs_swap (fun k y => (S y && A k x == y).toNat) n N
  have b : cs_s (fun k => cs_s (fun y => (S y && A k x == y).toNat) N) n = n := by
    rw [cs_congr (g := fun _ => 1) (fun k hk => ?_), cs_const, Nat.mul_one]
    have hy := bu_in h hk hx hS
    exact cs_one (p := fun y => S y && A k x == y) hy.1 fun y _ => by
      by_cases e : A k x = y
      · rw [← e, hy.2]; rfl
      · rw [cs_beqf e]; cases S y <;> rfl
  have c : cs_s (fun y => cs_s (fun k => (S y && A k x == y).toNat) n) N = cs_s (fun y => cs_c (fun k => A k x == x) n * (S y && bu_lo A y n == bu_lo A x n).toNat) N := cs_congr fun y hy => by
    cases hT : S y with
    | false =>
      show cs_s (fun k => 0) n = cs_c (fun k => A k x == x) n * 0
      rw [cs_const, Nat.mul_zero, Nat.mul_zero]
    | true =>
      show cs_c (fun k => A k x == y) n = cs_c (fun k => A k x == x) n * (bu_lo A y n == bu_lo A x n).toNat
      by_cases e : bu_lo A y n = bu_lo A x n
      · obtain ⟨l, hl, e1⟩ := bu_same h hx hS hy hT e
        rw [cs_beqt e, e1, bu_key h hl hx hS]
        exact (Nat.mul_one _).symm
      · rw [cs_beqf e, cs_czero]
        · exact (Nat.mul_zero _).symm
        · intro k hk
          apply cs_beqf
          intro e1
          exact e (by rw [← e1, bu_lo_inv h hk hx hS])
  rw [cs_mul] at c
  have d := b.symm.trans (a.symm.trans c)
  rw [Nat.mul_comm] at d
  exact d
end
end
section
/-! rearrangements of six places as numbers with three binary digits a place -/
def pm_im (e i : Nat) : Nat := e / 8 ^ i % 8
def pm_oc (f : Nat → Nat) : Nat := f 0 + 8 * f 1 + 64 * f 2 + 512 * f 3 + 4096 * f 4 + 32768 * f 5
def pm_sx (f : Nat → Nat) : Nat := f 0 + 6 * f 1 + 36 * f 2 + 216 * f 3 + 1296 * f 4 + 7776 * f 5
def pm_s (e : Nat) : Nat := pm_sx (pm_im e)
def pm_cmp (e f : Nat) : Nat := pm_oc (fun i => pm_im f (pm_im e i))
def pm_P (e : Nat) : Prop := e < 262144 ∧ (∀ i, i < 6 → pm_im e i < 6) ∧ ∀ i, i < 6 → ∀ j, j < 6 → pm_im e i = pm_im e j → i = j
theorem pm_6 {P : Nat → Prop} (h0 : P 0) (h1 : P 1) (h2 : P 2) (h3 : P 3) (h4 : P 4) (h5 : P 5) : ∀ i, i < 6 → P i := by
  intro i hi
  match i, hi with
  | 0, _ => exact h0
  | 1, _ => exact h1
  | 2, _ => exact h2
  | 3, _ => exact h3
  | 4, _ => exact h4
  | 5, _ => exact h5
  | n + 6, hi => omega
theorem pm_im8 (e i : Nat) : pm_im e i < 8 := Nat.mod_lt _ (by decide)
theorem pm_imoc (f : Nat → Nat) (h : ∀ i, i < 6 → f i < 8) : ∀ i, i < 6 → pm_im (pm_oc f) i = f i := by
  have a0 := h 0 (by decide)
  have a1 := h 1 (by decide)
  have a2 := h 2 (by decide)
  have a3 := h 3 (by decide)
  have a4 := h 4 (by decide)
  have a5 := h 5 (by decide)
  unfold pm_oc
  apply pm_6 <;> simp only [pm_im, Nat.reducePow] <;> omega
theorem pm_oclt (f : Nat → Nat) (h : ∀ i, i < 6 → f i < 8) : pm_oc f < 262144 := by
  have a0 := h 0 (by decide)
  have a1 := h 1 (by decide)
  have a2 := h 2 (by decide)
  have a3 := h 3 (by decide)
  have a4 := h 4 (by decide)
  have a5 := h 5 (by decide)
  unfold pm_oc
  omega
theorem pm_ext {e e' : Nat} (h : e < 262144) (h' : e' < 262144) (H : ∀ i, i < 6 → pm_im e i = pm_im e' i) : e = e' := by
  have a0 := H 0 (by decide)
  have a1 := H 1 (by decide)
  have a2 := H 2 (by decide)
  have a3 := H 3 (by decide)
  have a4 := H 4 (by decide)
  have a5 := H 5 (by decide)
  simp only [pm_im, Nat.reducePow] at a0 a1 a2 a3 a4 a5
  omega
theorem pm_ocim {e : Nat} (h : e < 262144) : pm_oc (pm_im e) = e := pm_ext (pm_oclt _ (fun i _ => pm_im8 e i)) h (pm_imoc _ (fun i _ => pm_im8 e i))
theorem pm_ocs (f : Nat → Nat) : pm_oc f = cs_s (fun j => f j * 8 ^ j) 6 := by
  show _ = 0 + f 0 * 8 ^ 0 + f 1 * 8 ^ 1 + f 2 * 8 ^ 2 + f 3 * 8 ^ 3 + f 4 * 8 ^ 4 + f 5 * 8 ^ 5
  simp only [pm_oc, Nat.reducePow]
  omega
theorem pm_cmpi {e f : Nat} {i : Nat} (hi : i < 6) : pm_im (pm_cmp e f) i = pm_im f (pm_im e i) := pm_imoc _ (fun _ _ => pm_im8 _ _) i hi
theorem pm_cmplt (e f : Nat) : pm_cmp e f < 262144 := pm_oclt _ (fun _ _ => pm_im8 _ _)
theorem pm_cmpP {e f : Nat} (he : pm_P e) (hf : pm_P f) : pm_P (pm_cmp e f) := by
  refine ⟨pm_cmplt e f, fun i hi => ?_, fun i hi j hj h => ?_⟩
  · rw [pm_cmpi hi]; exact hf.2.1 _ (he.2.1 i hi)
  · rw [pm_cmpi hi, pm_cmpi hj] at h
    exact he.2.2 i hi j hj (hf.2.2 _ (he.2.1 i hi) _ (he.2.1 j hj) h)
theorem pm_assoc {e f g : Nat} (he : pm_P e) (hf : pm_P f) : pm_cmp (pm_cmp e f) g = pm_cmp e (pm_cmp f g) := by
  apply pm_ext (pm_cmplt _ _) (pm_cmplt _ _)
  intro i hi
  rw [pm_cmpi hi, pm_cmpi hi, pm_cmpi hi, pm_cmpi (he.2.1 i hi)]
theorem pm_idi : ∀ i, i < 6 → pm_im 181896 i = i := by decide
theorem pm_idP : pm_P 181896 := by
  refine ⟨by decide, fun i hi => ?_, fun i hi j hj h => ?_⟩
  · rw [pm_idi i hi]; exact hi
  · rw [pm_idi i hi, pm_idi j hj] at h; exact h
theorem pm_cid {e : Nat} (he : pm_P e) : pm_cmp e 181896 = e := by
  apply pm_ext (pm_cmplt _ _) he.1
  intro i hi
  rw [pm_cmpi hi, pm_idi _ (he.2.1 i hi)]
theorem pm_idc {e : Nat} (he : pm_P e) : pm_cmp 181896 e = e := by
  apply pm_ext (pm_cmplt _ _) he.1
  intro i hi
  rw [pm_cmpi hi, pm_idi i hi]
theorem pm_canc {e e' g : Nat} (he : pm_P e) (he' : pm_P e') (hg : pm_P g) (h : pm_cmp e g = pm_cmp e' g) : e = e' := by
  apply pm_ext he.1 he'.1
  intro i hi
  have a := congrArg (fun z => pm_im z i) h
  simp only [pm_cmpi hi] at a
  exact hg.2.2 _ (he.2.1 i hi) _ (he'.2.1 i hi) a
/-- the way back -/
theorem pm_inv {e : Nat} (he : pm_P e) : ∃ q : Nat → Nat, (∀ j, j < 6 → q j < 6 ∧ pm_im e (q j) = j) ∧ ∀ i, i < 6 → q (pm_im e i) = i := by
  have s := cs_sur (n := 6) (pm_im e) he.2.1 (fun k k' hk hk' h => he.2.2 k hk k' hk' h)
  have h : ∀ j : Nat, ∃ i : Nat, j < 6 → i < 6 ∧ pm_im e i = j := by
    intro j
    by_cases hj : j < 6
    · obtain ⟨i, hi, ei⟩ := s j hj
      exact ⟨i, fun _ => ⟨hi, ei⟩⟩
    · exact ⟨0, fun z => absurd z hj⟩
  obtain ⟨q, hq⟩ := Classical.axiomOfChoice h
  refine ⟨q, fun j hj => hq j hj, fun i hi => ?_⟩
  have := hq _ (he.2.1 i hi)
  exact he.2.2 _ this.1 _ hi this.2
/-! codes of six digits to the base six -/
def ac_d (c x i : Nat) : Nat := x / c ^ i % c
theorem pm_slt {e : Nat} (he : pm_P e) : pm_s e < 46656 := by
  have a0 := he.2.1 0 (by decide)
  have a1 := he.2.1 1 (by decide)
  have a2 := he.2.1 2 (by decide)
  have a3 := he.2.1 3 (by decide)
  have a4 := he.2.1 4 (by decide)
  have a5 := he.2.1 5 (by decide)
  unfold pm_s pm_sx
  omega
theorem pm_sxd (f : Nat → Nat) (h : ∀ i, i < 6 → f i < 6) : ∀ i, i < 6 → ac_d 6 (pm_sx f) i = f i := by
  have a0 := h 0 (by decide)
  have a1 := h 1 (by decide)
  have a2 := h 2 (by decide)
  have a3 := h 3 (by decide)
  have a4 := h 4 (by decide)
  have a5 := h 5 (by decide)
  unfold pm_sx
  apply pm_6 <;> simp only [ac_d, Nat.reducePow] <;> omega
theorem pm_sd {e : Nat} (he : pm_P e) : ∀ i, i < 6 → ac_d 6 (pm_s e) i = pm_im e i := pm_sxd _ he.2.1
theorem pm_sinj {e e' : Nat} (he : pm_P e) (he' : pm_P e') (h : pm_s e = pm_s e') : e = e' := by
  apply pm_ext he.1 he'.1
  intro i hi
  rw [← pm_sd he i hi, ← pm_sd he' i hi, h]
end
section
/-! what m rearrangements e make: n of them, listed by a -/
def gr_G (m : Nat) (e : Nat → Nat) (n : Nat) (a : Nat → Nat) : Prop :=
  (∀ i, i < m → pm_P (e i)) ∧ (∀ k, k < n → pm_P (a k)) ∧ (∀ k k', k < n → k' < n → a k = a k' → k = k') ∧ (∃ k, k < n ∧ a k = 181896) ∧
  (∀ k, k < n → ∀ i, i < m → ∃ j, j < n ∧ a j = pm_cmp (a k) (e i)) ∧
  (∀ P : Nat → Prop, P 181896 → (∀ x, pm_P x → P x → ∀ i, i < m → P (pm_cmp x (e i))) → ∀ k, k < n → P (a k))
section
variable {m n : Nat} {e a : Nat → Nat}
theorem gr_mul (G : gr_G m e n a) {k l : Nat} (hk : k < n) (hl : l < n) : ∃ j, j < n ∧ a j = pm_cmp (a k) (a l) := by
  obtain ⟨g1, g2, g3, g4, g5, g6⟩ := G
  have h := g6 (fun x => pm_P x ∧ ∀ k, k < n → ∃ j, j < n ∧ a j = pm_cmp (a k) x) ⟨pm_idP, fun k hk => ⟨k, hk, (pm_cid (g2 k hk)).symm⟩⟩ (fun x hx h i hi => ⟨pm_cmpP hx (g1 i hi), fun k hk => by
    obtain ⟨j, hj, e1⟩ := h.2 k hk
    obtain ⟨j2, hj2, e2⟩ := g5 j hj i hi
    exact ⟨j2, hj2, by rw [e2, e1, pm_assoc (g2 k hk) hx]⟩⟩) l hl
  exact h.2 k hk
theorem gr_f (G : gr_G m e n a) {l : Nat} (hl : l < n) : ∃ f : Nat → Nat, (∀ k, k < n → f k < n) ∧ (∀ k k', k < n → k' < n → f k = f k' → k = k') ∧ ∀ k, k < n → a (f k) = pm_cmp (a k) (a l) := by
  have h : ∀ k : Nat, ∃ j : Nat, k < n → j < n ∧ a j = pm_cmp (a k) (a l) := by
    intro k
    by_cases hk : k < n
    · obtain ⟨j, hj, ej⟩ := gr_mul G hk hl
      exact ⟨j, fun _ => ⟨hj, ej⟩⟩
    · exact ⟨0, fun z => absurd z hk⟩
  obtain ⟨f, hf⟩ := Classical.axiomOfChoice h
  refine ⟨f, fun k hk => (hf k hk).1, fun k k' hk hk' h => ?_, fun k hk => (hf k hk).2⟩
  have e1 := (hf k hk).2
  rw [h, (hf k' hk').2] at e1
  exact G.2.2.1 k k' hk hk' (pm_canc (G.2.1 k hk) (G.2.1 k' hk') (G.2.1 l hl) e1.symm)
theorem gr_linv (G : gr_G m e n a) {l : Nat} (hl : l < n) : ∃ k, k < n ∧ pm_cmp (a k) (a l) = 181896 := by
  obtain ⟨f, f1, f2, f3⟩ := gr_f G hl
  obtain ⟨i, hi, ei⟩ := G.2.2.2.1
  obtain ⟨k, hk, ek⟩ := cs_sur f f1 f2 i hi
  exact ⟨k, hk, by rw [← f3 k hk, ek, ei]⟩
theorem gr_inv (G : gr_G m e n a) {l : Nat} (hl : l < n) : ∃ k, k < n ∧ pm_cmp (a k) (a l) = 181896 ∧ pm_cmp (a l) (a k) = 181896 := by
  obtain ⟨k, hk, ek⟩ := gr_linv G hl
  obtain ⟨j, hj, ej⟩ := gr_linv G hk
  have hpk := G.2.1 k hk
  have hpl := G.2.1 l hl
  have hpj := G.2.1 j hj
  have e1 : a j = a l := by
    rw [← pm_cid hpj, ← ek, ← pm_assoc hpj hpk, ej, pm_idc hpl]
  exact ⟨k, hk, ek, by rw [← e1]; exact ej⟩
theorem gr_pos (G : gr_G m e n a) : 0 < n := by
  obtain ⟨k, hk, _⟩ := G.2.2.2.1
  omega
/-- what a rearrangement does, as an action of those listed -/
theorem gr_act (G : gr_G m e n a) {N : Nat} {S : Nat → Bool} {B : Nat → Nat → Nat} (b1 : ∀ k, k < n → ∀ x, x < N → S x = true → B (a k) x < N ∧ S (B (a k) x) = true) (b2 : ∀ x, x < N → S x = true → B 181896 x = x) (b3 : ∀ g h, pm_P g → pm_P h → ∀ x, x < N → S x = true → B (pm_cmp g h) x = B h (B g x)) : bu_A n N S (fun k x => B (a k) x) := by
  refine ⟨b1, ?_, fun l hl => ?_, fun l hl => ?_⟩
  · obtain ⟨k, hk, ek⟩ := G.2.2.2.1
    exact ⟨k, hk, fun x hx hS => by show B (a k) x = x; rw [ek]; exact b2 x hx hS⟩
  · obtain ⟨f, f1, f2, f3⟩ := gr_f G hl
    exact ⟨f, f1, f2, fun k hk x hx hS => by
      show B (a (f k)) x = B (a l) (B (a k) x)
      rw [f3 k hk]; exact b3 _ _ (G.2.1 k hk) (G.2.1 l hl) x hx hS⟩
  · obtain ⟨k, hk, e1, e2⟩ := gr_inv G hl
    refine ⟨k, hk, fun x hx hS => ?_, fun x hx hS => ?_⟩
    · show B (a k) (B (a l) x) = x
      rw [← b3 _ _ (G.2.1 l hl) (G.2.1 k hk) x hx hS, e2]; exact b2 x hx hS
    · show B (a l) (B (a k) x) = x
      rw [← b3 _ _ (G.2.1 k hk) (G.2.1 l hl) x hx hS, e1]; exact b2 x hx hS
/-- two listings of what the same ones make hold the same -/
theorem gr_mem (G : gr_G m e n a) {n' : Nat} {a' : Nat → Nat} (G' : gr_G m e n' a') : ∀ k, k < n → ∃ j, j < n' ∧ a k = a' j := by
  apply G.2.2.2.2.2 (fun x => ∃ j, j < n' ∧ x = a' j)
  · obtain ⟨j, hj, ej⟩ := G'.2.2.2.1
    exact ⟨j, hj, ej.symm⟩
  · intro x hx ⟨j, hj, ej⟩ i hi
    obtain ⟨j2, hj2, e2⟩ := G'.2.2.2.2.1 j hj i hi
    exact ⟨j2, hj2, by rw [e2, ej]⟩
theorem gr_cnt (G : gr_G m e n a) {n' : Nat} {a' : Nat → Nat} (G' : gr_G m e n' a') (p : Nat → Bool) : cs_c (fun k => p (a k)) n = cs_c (fun k => p (a' k)) n' := by
  refine cs_bij (fun k j => a k = a' j) ?_ ?_ ?_ ?_
  · intro k hk hp
    obtain ⟨j, hj, ej⟩ := gr_mem G G' k hk
    exact ⟨j, hj, by show p (a' j) = true; rw [← ej]; exact hp, ej⟩
  · intro j hj hp
    obtain ⟨k, hk, ek⟩ := gr_mem G' G j hj
    exact ⟨k, hk, by show p (a k) = true; rw [← ek]; exact hp, ek.symm⟩
  · intro k k' j hk hk' h h'
    exact G.2.2.1 k k' hk hk' (h.trans h'.symm)
  · intro k j j' hj hj' h h'
    exact G'.2.2.1 j j' hj hj' (h.symm.trans h')
theorem gr_len (G : gr_G m e n a) {n' : Nat} {a' : Nat → Nat} (G' : gr_G m e n' a') : n = n' := by
  have h := gr_cnt G G' (fun _ => true)
  rw [cs_call, cs_call] at h
  exact h
/-- a set that holds x and is kept by the generators, and holds no more than it must: the orbit -/
theorem gr_orb (G : gr_G m e n a) {N : Nat} {S : Nat → Bool} {B : Nat → Nat → Nat} (b1 : ∀ g, pm_P g → ∀ x, x < N → S x = true → B g x < N ∧ S (B g x) = true) (b2 : ∀ x, x < N → S x = true → B 181896 x = x) (b3 : ∀ g h, pm_P g → pm_P h → ∀ x, x < N → S x = true → B (pm_cmp g h) x = B h (B g x)) {T : Nat → Prop} {x : Nat} (hx : x < N) (hS : S x = true) (t0 : T x) (t1 : ∀ y, y < N → S y = true → T y → ∀ i, i < m → T (B (e i) y)) : ∀ k, k < n → T (B (a k) x) := by
  intro k hk
  have h := G.2.2.2.2.2 (fun g => pm_P g ∧ T (B g x)) ⟨pm_idP, by rw [b2 x hx hS]; exact t0⟩ (fun g hg h i hi => ⟨pm_cmpP hg (G.1 i hi), by
    have := b1 g hg x hx hS
    rw [b3 g _ hg (G.1 i hi) x hx hS]
    exact t1 _ this.1 this.2 h.2 i hi⟩) k hk
  exact h.2
theorem gr_reach (G : gr_G m e n a) {N : Nat} {S : Nat → Bool} {B : Nat → Nat → Nat} (b2 : ∀ x, x < N → S x = true → B 181896 x = x) (b3 : ∀ g h, pm_P g → pm_P h → ∀ x, x < N → S x = true → B (pm_cmp g h) x = B h (B g x)) {x y : Nat} (hx : x < N) (hS : S x = true) (h : ∀ P : Nat → Prop, P x → (∀ y, P y → ∀ i, i < m → P (B (e i) y)) → P y) : ∃ k, k < n ∧ y = B (a k) x := by
  apply h (fun y => ∃ k, k < n ∧ y = B (a k) x)
  · obtain ⟨k, hk, ek⟩ := G.2.2.2.1
    exact ⟨k, hk, by rw [ek, b2 x hx hS]⟩
  · intro y ⟨k, hk, ek⟩ i hi
    obtain ⟨j, hj, ej⟩ := G.2.2.2.2.1 k hk i hi
    exact ⟨j, hj, by rw [ej, b3 _ _ (G.2.1 k hk) (G.1 i hi) x hx hS, ek]⟩
end
end
section
/-! colourings as numbers to the base c, and what a rearrangement makes of one -/
theorem ac_num {c : Nat} (hc : 0 < c) (D : Nat → Nat) : ∀ n, (∀ j, j < n → D j < c) → cs_s (fun j => D j * c ^ j) n < c ^ n ∧ ∀ j, j < n → cs_s (fun j => D j * c ^ j) n / c ^ j % c = D j := by
  intro n
  induction n with
  | zero => intro _; exact ⟨by rw [cs_s0]; exact Nat.pow_pos hc, fun j hj => by omega⟩
  | succ n ih =>
    intro h
    obtain ⟨i1, i2⟩ := ih (fun j hj => h j (by omega))
    have hn := h n (by omega)
    rw [cs_s1]
    generalize cs_s (fun j => D j * c ^ j) n = y at *
    constructor
    · have h3 : (D n + 1) * c ^ n ≤ c * c ^ n := Nat.mul_le_mul_right _ hn
      rw [Nat.add_mul, Nat.one_mul] at h3
      rw [Nat.pow_succ, Nat.mul_comm (c ^ n) c]
      omega
    · intro j hj
      by_cases e : j = n
      · subst e
        rw [Nat.add_mul_div_right _ _ (Nat.pow_pos hc), Nat.div_eq_of_lt i1, Nat.zero_add, Nat.mod_eq_of_lt hn]
      · have hj' : j < n := by omega
        obtain ⟨d, hd⟩ : ∃ d, n = j + (d + 1) := ⟨n - j - 1, by omega⟩
        have e1 : D n * c ^ n = (D n * c ^ d * c) * c ^ j := by
          rw [hd, Nat.pow_add, Nat.pow_succ, Nat.mul_assoc, Nat.mul_assoc, Nat.mul_comm (c ^ j)]
          simp only [Nat.mul_assoc]
        rw [e1, Nat.add_mul_div_right _ _ (Nat.pow_pos hc), Nat.add_mul_mod_self_right, i2 j hj']
theorem ac_sum (c x : Nat) : ∀ n, cs_s (fun j => ac_d c x j * c ^ j) n = x % c ^ n := by
  intro n
  induction n with
  | zero => rw [cs_s0, Nat.pow_zero, Nat.mod_one]
  | succ n ih => rw [cs_s1, ih, Nat.mod_pow_succ, Nat.mul_comm (c ^ n)]; rfl
theorem ac_ext {c x y : Nat} (hx : x < c ^ 6) (hy : y < c ^ 6) (h : ∀ i, i < 6 → ac_d c x i = ac_d c y i) : x = y := by
  rw [← Nat.mod_eq_of_lt hx, ← Nat.mod_eq_of_lt hy, ← ac_sum, ← ac_sum]
  exact cs_congr fun i hi => by rw [h i hi]
theorem ac_dlt {c x i : Nat} (hc : 0 < c) : ac_d c x i < c := Nat.mod_lt _ hc
noncomputable def ac_a (c e x : Nat) : Nat := cs_s (fun i => ac_d c x i * c ^ pm_im e i) 6
theorem ac_ad {c e x : Nat} (hc : 0 < c) (he : pm_P e) : ac_a c e x < c ^ 6 ∧ ∀ i, i < 6 → ac_d c (ac_a c e x) (pm_im e i) = ac_d c x i := by
  obtain ⟨q, q1, q2⟩ := pm_inv he
  have e1 : ac_a c e x = cs_s (fun j => ac_d c x (q j) * c ^ j) 6 := by
    rw [← cs_perm (pm_im e) he.2.1 (fun k k' hk hk' h => he.2.2 k hk k' hk' h) (fun j => ac_d c x (q j) * c ^ j)]
    exact cs_congr fun i hi => by rw [q2 i hi]
  have h := ac_num hc (fun j => ac_d c x (q j)) 6 (fun j _ => ac_dlt hc)
  rw [← e1] at h
  refine ⟨h.1, fun i hi => ?_⟩
  have := h.2 _ (he.2.1 i hi)
  rw [q2 i hi] at this
  exact this
theorem ac_lt {c e x : Nat} (hc : 0 < c) (he : pm_P e) : ac_a c e x < c ^ 6 := (ac_ad hc he).1
theorem ac_mul {c e f x : Nat} (hc : 0 < c) (he : pm_P e) (hf : pm_P f) : ac_a c (pm_cmp e f) x = ac_a c f (ac_a c e x) := by
  apply ac_ext (ac_lt hc (pm_cmpP he hf)) (ac_lt hc hf)
  intro j hj
  obtain ⟨q, q1, q2⟩ := pm_inv (pm_cmpP he hf)
  obtain ⟨hi, ei⟩ := q1 j hj
  have h1 := (ac_ad (c := c) (x := x) hc (pm_cmpP he hf)).2 _ hi
  have h2 := (ac_ad (c := c) (x := ac_a c e x) hc hf).2 _ (he.2.1 _ hi)
  have h3 := (ac_ad (c := c) (x := x) hc he).2 _ hi
  rw [ei] at h1
  rw [pm_cmpi hi] at ei
  rw [ei, h3] at h2
  rw [h1, h2]
theorem ac_id {c x : Nat} (hc : 0 < c) (hx : x < c ^ 6) : ac_a c 181896 x = x := by
  apply ac_ext (ac_lt hc pm_idP) hx
  intro i hi
  have h := (ac_ad (c := c) (x := x) hc pm_idP).2 i hi
  rw [pm_idi i hi] at h
  exact h
/-- the digits of one and those of what comes of it -/
theorem ac_eq {c e x y : Nat} (hc : 0 < c) (he : pm_P e) (hy : y < c ^ 6) : ac_a c e x = y ↔ ∀ i, i < 6 → ac_d c y (pm_im e i) = ac_d c x i := by
  constructor
  · intro h i hi
    rw [← h]; exact (ac_ad hc he).2 i hi
  · intro h
    apply ac_ext (ac_lt hc he) hy
    intro j hj
    obtain ⟨q, q1, q2⟩ := pm_inv he
    obtain ⟨hi, ei⟩ := q1 j hj
    have h1 := (ac_ad (c := c) (x := x) hc he).2 _ hi
    have h2 := h _ hi
    rw [ei] at h1 h2
    rw [h1, h2]
/-- the exchange of the first two colours -/
def ac_t (c d : Nat) : Nat := if d < 2 ∧ 1 < c then 1 - d else d
noncomputable def ac_x (c x : Nat) : Nat := cs_s (fun i => ac_t c (ac_d c x i) * c ^ i) 6
theorem ac_tlt {c d : Nat} (h : d < c) : ac_t c d < c := by
  unfold ac_t
  split <;> omega
theorem ac_xd {c x : Nat} (hc : 0 < c) : ac_x c x < c ^ 6 ∧ ∀ i, i < 6 → ac_d c (ac_x c x) i = ac_t c (ac_d c x i) :=
  ac_num hc (fun i => ac_t c (ac_d c x i)) 6 (fun j _ => ac_tlt (ac_dlt hc))
theorem ac_xa {c e x : Nat} (hc : 0 < c) (he : pm_P e) : ac_a c e (ac_x c x) = ac_x c (ac_a c e x) := by
  rw [ac_eq hc he (ac_xd hc).1]
  intro i hi
  rw [(ac_xd hc).2 _ (he.2.1 i hi), (ac_ad hc he).2 i hi, (ac_xd hc).2 i hi]
/-- how many places have colour d -/
noncomputable def ac_n (c x d : Nat) : Nat := cs_c (fun i => ac_d c x i == d) 6
theorem ac_ninv {c e x d : Nat} (hc : 0 < c) (he : pm_P e) : ac_n c (ac_a c e x) d = ac_n c x d := by
  have h := cs_perm (pm_im e) he.2.1 (fun k k' hk hk' h => he.2.2 k hk k' hk' h) (fun j => (ac_d c (ac_a c e x) j == d).toNat)
  show cs_s (fun j => (ac_d c (ac_a c e x) j == d).toNat) 6 = cs_s (fun j => (ac_d c x j == d).toNat) 6
  rw [← h]
  exact cs_congr fun i hi => by rw [(ac_ad hc he).2 i hi]
/-! the actions: on colourings that S picks, on places, on pairs of places -/
section
variable {m n : Nat} {e a : Nat → Nat}
theorem ac_b1 {c : Nat} (hc : 0 < c) {S : Nat → Bool} (hS : ∀ g, pm_P g → ∀ x, x < c ^ 6 → S (ac_a c g x) = S x) : ∀ g, pm_P g → ∀ x, x < c ^ 6 → S x = true → ac_a c g x < c ^ 6 ∧ S (ac_a c g x) = true := fun g hg x hx h => ⟨ac_lt hc hg, by rw [hS g hg x hx]; exact h⟩
theorem ac_b2 {c : Nat} (hc : 0 < c) (S : Nat → Bool) : ∀ x, x < c ^ 6 → S x = true → ac_a c 181896 x = x := fun x hx _ => ac_id hc hx
theorem ac_b3 {c : Nat} (hc : 0 < c) (S : Nat → Bool) : ∀ g h, pm_P g → pm_P h → ∀ x, x < c ^ 6 → S x = true → ac_a c (pm_cmp g h) x = ac_a c h (ac_a c g x) := fun g h hg hh x _ _ => ac_mul hc hg hh
theorem ac_A (G : gr_G m e n a) {c : Nat} (hc : 0 < c) {S : Nat → Bool} (hS : ∀ k, k < n → ∀ x, x < c ^ 6 → S (ac_a c (a k) x) = S x) : bu_A n (c ^ 6) S (fun k x => ac_a c (a k) x) :=
  gr_act G (B := ac_a c) (fun k hk x hx h => ⟨ac_lt hc (G.2.1 k hk), by rw [hS k hk x hx]; exact h⟩) (ac_b2 hc S) (ac_b3 hc S)
theorem ac_p1 : ∀ g, pm_P g → ∀ x, x < 6 → (fun _ : Nat => true) x = true → pm_im g x < 6 ∧ (fun _ : Nat => true) (pm_im g x) = true := fun g hg x hx _ => ⟨hg.2.1 x hx, rfl⟩
theorem ac_p2 : ∀ x, x < 6 → (fun _ : Nat => true) x = true → pm_im 181896 x = x := fun x hx _ => pm_idi x hx
theorem ac_p3 : ∀ g h, pm_P g → pm_P h → ∀ x, x < 6 → (fun _ : Nat => true) x = true → pm_im (pm_cmp g h) x = pm_im h (pm_im g x) := fun g h _ _ x hx _ => pm_cmpi hx
theorem ac_pA (G : gr_G m e n a) : bu_A n 6 (fun _ => true) (fun k x => pm_im (a k) x) := gr_act G (B := pm_im) (fun k hk => ac_p1 _ (G.2.1 k hk)) ac_p2 ac_p3
/-- pairs -/
def ac_S (x : Nat) : Bool := Nat.blt (x / 6) (x % 6)
def ac_q (g x : Nat) : Nat := if pm_im g (x / 6) < pm_im g (x % 6) then 6 * pm_im g (x / 6) + pm_im g (x % 6) else 6 * pm_im g (x % 6) + pm_im g (x / 6)
theorem ac_Si {x : Nat} : ac_S x = true ↔ x / 6 < x % 6 := by
  unfold ac_S
  rw [Nat.blt_eq]
theorem ac_q1 : ∀ g, pm_P g → ∀ x, x < 36 → ac_S x = true → ac_q g x < 36 ∧ ac_S (ac_q g x) = true := by
  intro g hg x hx hS
  rw [ac_Si] at hS
  have h1 := hg.2.1 (x / 6) (by omega)
  have h2 := hg.2.1 (x % 6) (by omega)
  have h3 : pm_im g (x / 6) ≠ pm_im g (x % 6) := fun h => by
    have := hg.2.2 _ (by omega) _ (by omega) h
    omega
  rw [ac_Si]
  unfold ac_q
  split <;> omega
theorem ac_q2 : ∀ x, x < 36 → ac_S x = true → ac_q 181896 x = x := by
  intro x hx hS
  rw [ac_Si] at hS
  unfold ac_q
  rw [pm_idi _ (show x / 6 < 6 by omega), pm_idi _ (show x % 6 < 6 by omega), if_pos hS]
  omega
theorem ac_q3 : ∀ g h, pm_P g → pm_P h → ∀ x, x < 36 → ac_S x = true → ac_q (pm_cmp g h) x = ac_q h (ac_q g x) := by
  intro g h hg hh x hx hS
  rw [ac_Si] at hS
  have h1 := hg.2.1 (x / 6) (by omega)
  have h2 := hg.2.1 (x % 6) (by omega)
  have h3 : pm_im g (x / 6) ≠ pm_im g (x % 6) := fun h => by
    have := hg.2.2 _ (by omega) _ (by omega) h
    omega
  have h4 : pm_im h (pm_im g (x / 6)) ≠ pm_im h (pm_im g (x % 6)) := fun z => h3 (hh.2.2 _ h1 _ h2 z)
  unfold ac_q
  rw [pm_cmpi (show x / 6 < 6 by omega), pm_cmpi (show x % 6 < 6 by omega)]
  generalize pm_im g (x / 6) = y at *
  generalize pm_im g (x % 6) = z at *
  by_cases c : y < z
  · rw [if_pos c, show (6 * y + z) / 6 = y by omega, show (6 * y + z) % 6 = z by omega]
  · rw [if_neg c, show (6 * z + y) / 6 = z by omega, show (6 * z + y) % 6 = y by omega]
    by_cases d : pm_im h y < pm_im h z
    · rw [if_pos d, if_neg (by omega)]
    · rw [if_neg d, if_pos (by omega)]
theorem ac_qA (G : gr_G m e n a) : bu_A n 36 ac_S (fun k x => ac_q (a k) x) := gr_act G (B := ac_q) (fun k hk => ac_q1 _ (G.2.1 k hk)) ac_q2 ac_q3
end
end
section
/-! what one rearrangement does, as the kernel reckons it -/
def pm_l (P : Nat → Bool) : Bool := P 0 && (P 1 && (P 2 && (P 3 && (P 4 && P 5))))
theorem pm_li (P : Nat → Bool) : pm_l P = true ↔ ∀ i, i < 6 → P i = true := by
  unfold pm_l
  simp only [Bool.and_eq_true]
  constructor
  · rintro ⟨h0, h1, h2, h3, h4, h5⟩
    exact pm_6 h0 h1 h2 h3 h4 h5
  · intro h
    exact ⟨h 0 (by decide), h 1 (by decide), h 2 (by decide), h 3 (by decide), h 4 (by decide), h 5 (by decide)⟩
def pm_all (P : Nat → Bool) : Bool :=
  pm_l fun a => pm_l fun b => Nat.beq a b || pm_l fun c => (Nat.beq a c || Nat.beq b c) || pm_l fun d => (Nat.beq a d || (Nat.beq b d || Nat.beq c d)) || pm_l fun e => (Nat.beq a e || (Nat.beq b e || (Nat.beq c e || Nat.beq d e))) || pm_l fun f => (Nat.beq a f || (Nat.beq b f || (Nat.beq c f || (Nat.beq d f || Nat.beq e f)))) || P (a + 8 * b + 64 * c + 512 * d + 4096 * e + 32768 * f)
theorem pm_nb {e : Nat} (he : pm_P e) {i j : Nat} (hi : i < 6) (hj : j < 6) (h : i ≠ j) : Nat.beq (pm_im e i) (pm_im e j) = false := by
  have h2 : pm_im e i ≠ pm_im e j := fun z => h (he.2.2 i hi j hj z)
  cases h3 : Nat.beq (pm_im e i) (pm_im e j) with
  | false => rfl
  | true => exact absurd (Nat.eq_of_beq_eq_true h3) h2
theorem pm_sound {P : Nat → Bool} (h : pm_all P = true) {e : Nat} (he : pm_P e) : P e = true := by
  have d0 := he.2.1 0 (by decide)
  have d1 := he.2.1 1 (by decide)
  have d2 := he.2.1 2 (by decide)
  have d3 := he.2.1 3 (by decide)
  have d4 := he.2.1 4 (by decide)
  have d5 := he.2.1 5 (by decide)
  have nb := fun i j hi hj hne => pm_nb he (i := i) (j := j) hi hj hne
  have h1 := (pm_li _).mp ((pm_li _).mp h _ d0) _ d1
  try dsimp only at h1
  rw [nb 0 1 (by decide) (by decide) (by decide), Bool.false_or] at h1
  have h2 := (pm_li _).mp h1 _ d2
  try dsimp only at h2
  rw [nb 0 2 (by decide) (by decide) (by decide), nb 1 2 (by decide) (by decide) (by decide), Bool.false_or, Bool.false_or] at h2
  have h3 := (pm_li _).mp h2 _ d3
  try dsimp only at h3
  rw [nb 0 3 (by decide) (by decide) (by decide), nb 1 3 (by decide) (by decide) (by decide), nb 2 3 (by decide) (by decide) (by decide), Bool.false_or, Bool.false_or, Bool.false_or] at h3
  have h4 := (pm_li _).mp h3 _ d4
  try dsimp only at h4
  rw [nb 0 4 (by decide) (by decide) (by decide), nb 1 4 (by decide) (by decide) (by decide), nb 2 4 (by decide) (by decide) (by decide), nb 3 4 (by decide) (by decide) (by decide), Bool.false_or, Bool.false_or, Bool.false_or, Bool.false_or] at h4
  have h5 := (pm_li _).mp h4 _ d5
  try dsimp only at h5
  rw [nb 0 5 (by decide) (by decide) (by decide), nb 1 5 (by decide) (by decide) (by decide), nb 2 5 (by decide) (by decide) (by decide), nb 3 5 (by decide) (by decide) (by decide), nb 4 5 (by decide) (by decide) (by decide), Bool.false_or, Bool.false_or, Bool.false_or, Bool.false_or, Bool.false_or] at h5
  have e1 : pm_im e 0 + 8 * pm_im e 1 + 64 * pm_im e 2 + 512 * pm_im e 3 + 4096 * pm_im e 4 + 32768 * pm_im e 5 = e := pm_ocim he.1
  rw [e1] at h5
  exact h5
/-- the lengths of cycles -/
def sh_in (e : Nat) : Nat → Nat → Nat → Nat → Nat × Nat
  | 0, s, l, _ => (s, l)
  | f + 1, s, l, w => if s / 2 ^ w % 2 = 0 then sh_in e f (s ||| 2 ^ w) (l + 1) (pm_im e w) else (s, l)
def sh_out (e : Nat) : Nat → Nat → Nat → Nat → Nat
  | 0, _, o, _ => o
  | f + 1, s, o, i => sh_out e f (sh_in e 6 s 0 i).1 (if (sh_in e 6 s 0 i).2 = 0 then o else o + 2 ^ (4 * (sh_in e 6 s 0 i).2 - 4)) (i + 1)
def sh_e (e : Nat) : Nat := sh_out e 6 0 0 0
def sh_c (s l : Nat) : Nat := s / 2 ^ (4 * l - 4) % 16
noncomputable def sh_a (s : Nat) : Nat := cs_s (fun i => sh_c s (i + 1)) 6
/-- the reference's own count of cycles -/
def cy_in (g : Nat) : Nat → Nat → Nat → Option Nat
  | 0, _, _ => none
  | f + 1, s, w => if s / 2 ^ w % 2 = 0 then cy_in g f (s ||| 2 ^ w) (ac_d 6 g w) else some s
def cy_nx (s i n : Nat) : Nat := if s / 2 ^ i % 2 = 0 then n + 1 else n
def cy_out (g : Nat) : Nat → Nat → Nat → Nat → Option Nat
  | 0, _, n, _ => some n
  | f + 1, s, n, i => match cy_in g 8 s i with
    | none => none
    | some t => cy_out g f t (cy_nx s i n) (i + 1)
def cy_g (g : Nat) : Option Nat := cy_out g 6 0 0 0
/-- the ways to colour cycles -/
def dp_t (c l : Nat) (W : Nat → Nat) (k : Nat) : Nat := (if c = 3 then W k else 0) + (if l ≤ k / 7 then W (k - 7 * l) else 0) + (if 1 < c ∧ l ≤ k % 7 then W (k - l) else 0)
noncomputable def dp_r (c l n : Nat) (W : Nat → Nat) : Nat → Nat := Nat.rec W (fun _ V => dp_t c l V) n
def dp_0 (k : Nat) : Nat := if k = 0 then 1 else 0
noncomputable def dp_s (c s n : Nat) : Nat → Nat := Nat.rec dp_0 (fun l V => dp_r c (l + 1) (sh_c s (l + 1)) V) n
noncomputable def dp_w (c s : Nat) : Nat → Nat := dp_s c s 6
/-- those that are exchanged -/
def se_c (c l : Nat) : Nat := (if l % 2 = 0 then 2 else 0) + c - 2
noncomputable def se_p (c s n : Nat) : Nat := Nat.rec 1 (fun i r => r * se_c c (i + 1) ^ sh_c s (i + 1)) n
/-- the number in the dictionary -/
noncomputable def pl_n (g n : Nat) : Nat := Nat.rec 0 (fun i r => r * (6 - i) + cs_c (fun t => Nat.blt (ac_d 6 g (i + 1 + t)) (ac_d 6 g i)) (5 - i)) n
/-- powers -/
noncomputable def pm_pw (e n : Nat) : Nat := Nat.rec 181896 (fun _ r => pm_cmp r e) n
/-- colourings: raw rows for the kernel -/
def kc_d (c x i : Nat) : Nat := Nat.mod (Nat.div x (Nat.pow c i)) c
def kc_i (e i : Nat) : Nat := Nat.mod (Nat.div e (Nat.pow 8 i)) 8
def kc_f (c e x : Nat) : Bool := pm_l (fun i => Nat.beq (kc_d c x (kc_i e i)) (kc_d c x i))
def kc_t (c d : Nat) : Nat := cond (Nat.blt d 2 && Nat.blt 1 c) (Nat.sub 1 d) d
def kc_x (c e x : Nat) : Bool := pm_l (fun i => Nat.beq (kc_t c (kc_d c x (kc_i e i))) (kc_d c x i))
def kc_b (b : Bool) : Nat := cond b 1 0
def kc_n (c x d : Nat) : Nat := Nat.add (Nat.add (Nat.add (Nat.add (Nat.add (kc_b (Nat.beq (kc_d c x 0) d)) (kc_b (Nat.beq (kc_d c x 1) d))) (kc_b (Nat.beq (kc_d c x 2) d))) (kc_b (Nat.beq (kc_d c x 3) d))) (kc_b (Nat.beq (kc_d c x 4) d))) (kc_b (Nat.beq (kc_d c x 5) d))
def kc_k (c x : Nat) : Nat := Nat.add (Nat.mul 7 (kc_n c x 0)) (kc_n c x 1)
noncomputable def kc_al (c x : Nat) : Bool := Nat.rec true (fun d r => r && Nat.blt 0 (kc_n c x d)) c
def kg_f (T : Nat → Nat) (c e x : Nat) : Bool := pm_l (fun i => Nat.beq (T (kc_d c x (kc_i e i))) (kc_d c x i))
def kg_o (T : Nat → Nat) (c e n z : Nat) : Bool := pm_l (fun j => Nat.blt j n || (Nat.blt (kc_i e j) n || Nat.beq (T (kc_d c z (kc_i e j))) (kc_d c z j)))
/-- a sum over colourings, from the last place down, without those that fail already -/
noncomputable def kg_R (f : Nat → Bool) (o : Nat → Nat → Bool) (w : Nat → Nat) (c n : Nat) : Nat → Nat := Nat.rec (fun z => cond (f z) (w z) 0) (fun n r z => cs_s (fun d => cond (o n (z + d * c ^ n)) (r (z + d * c ^ n)) 0) c) n
noncomputable def kw_w (c x : Nat) : Nat := Nat.add (Nat.add (Nat.pow 1024 (kc_k c x)) (Nat.pow 1024 49)) (cond (kc_al c x) (Nat.pow 1024 50) 0)
noncomputable def kg_A (c e : Nat) : Nat := kg_R (kg_f (fun d => d) c e) (kg_o (fun d => d) c e) (kw_w c) c 6 0
noncomputable def kg_X (c e : Nat) : Nat := kg_R (kg_f (kc_t c) c e) (kg_o (kc_t c) c e) (fun _ => 1) c 6 0
noncomputable def kt_l (c v a : Nat) : Bool := cond (Nat.beq c 1) (Nat.beq v 1) (cond (Nat.beq c 2) (Nat.beq (v + 2) (2 ^ a)) (Nat.beq (v + 3 * 2 ^ a) (3 ^ a + 3)))
noncomputable def kt_ok (c : Nat) (t : List (Nat × Nat)) : Bool := t.all (fun p => Nat.beq (p.2 / 1024 ^ 49 % 1024) (c ^ sh_a p.1) && (kt_l c (p.2 / 1024 ^ 50 % 1024) (sh_a p.1) && (List.range 49).all (fun j => Nat.blt 6 (j / 7 + j % 7) || Nat.beq (p.2 / 1024 ^ j % 1024) (dp_w c p.1 j))))
noncomputable def kt_in (c e : Nat) (t : List (Nat × Nat)) : Bool := t.any (fun p => Nat.beq p.1 (sh_e e) && Nat.beq p.2 (kg_A c e))
noncomputable def kc_X (e : Nat) : Bool := Nat.beq (kg_X 2 e) (se_p 2 (sh_e e) 6) && Nat.beq (kg_X 3 e) (se_p 3 (sh_e e) 6)
def kl_0 : List Nat := [181896, 153224, 178312, 120968, 146056, 117384, 181448, 152776, 174280, 88264, 142024, 84680, 177416, 120072, 173832, 87816, 109320, 80648, 144712, 116040, 141128, 83784, 108872, 80200, 181840, 153168, 178256, 120912, 146000, 117328]
def kl_1 : List Nat := [180944, 152272, 170192, 55504, 137936, 51920, 176912, 119568, 169744, 55056, 105232, 47888, 144208, 115536, 137040, 51024, 104784, 47440, 181336, 152664, 174168, 88152, 141912, 84568, 180888, 152216, 170136, 55448, 137880, 51864]
def kl_2 : List Nat := [172824, 86808, 169240, 54552, 72472, 43800, 140120, 82776, 136536, 50520, 72024, 43352, 177248, 119904, 173664, 87648, 109152, 80480, 176800, 119456, 169632, 54944, 105120, 47776, 172768, 86752, 169184, 54496, 72416, 43744]
def kl_3 : List Nat := [107360, 78688, 103776, 46432, 71520, 42848, 144488, 115816, 140904, 83560, 108648, 79976, 144040, 115368, 136872, 50856, 104616, 47272, 140008, 82664, 136424, 50408, 71912, 43240, 107304, 78632, 103720, 46376, 71464, 42792]
def kl_4 : List Nat := [181889, 153217, 178305, 120961, 146049, 117377, 181441, 152769, 174273, 88257, 142017, 84673, 177409, 120065, 173825, 87809, 109313, 80641, 144705, 116033, 141121, 83777, 108865, 80193, 181777, 153105, 178193, 120849, 145937, 117265]
def kl_5 : List Nat := [180433, 151761, 166097, 22737, 133841, 19153, 176401, 119057, 165649, 22289, 101137, 15121, 143697, 115025, 132945, 18257, 100689, 14673, 181273, 152601, 174105, 88089, 141849, 84505, 180377, 151705, 166041, 22681, 133785, 19097]
def kl_6 : List Nat := [172313, 86297, 165145, 21785, 68377, 11033, 139609, 82265, 132441, 17753, 67929, 10585, 177185, 119841, 173601, 87585, 109089, 80417, 176289, 118945, 165537, 22177, 101025, 15009, 172257, 86241, 165089, 21729, 68321, 10977]
def kl_7 : List Nat := [106849, 78177, 99681, 13665, 67425, 10081, 144425, 115753, 140841, 83497, 108585, 79913, 143529, 114857, 132777, 18089, 100521, 14505, 139497, 82153, 132329, 17641, 67817, 10473, 106793, 78121, 99625, 13609, 67369, 10025]
def kl_8 : List Nat := [181826, 153154, 178242, 120898, 145986, 117314, 180930, 152258, 170178, 55490, 137922, 51906, 176898, 119554, 169730, 55042, 105218, 47874, 144194, 115522, 137026, 51010, 104770, 47426, 181770, 153098, 178186, 120842, 145930, 117258]
def kl_9 : List Nat := [180426, 151754, 166090, 22730, 133834, 19146, 176394, 119050, 165642, 22282, 101130, 15114, 143690, 115018, 132938, 18250, 100682, 14666, 180762, 152090, 170010, 55322, 137754, 51738, 180314, 151642, 165978, 22618, 133722, 19034]
def kl_10 : List Nat := [168218, 53530, 164634, 21274, 35610, 6938, 135514, 49498, 131930, 17242, 35162, 6490, 176674, 119330, 169506, 54818, 104994, 47650, 176226, 118882, 165474, 22114, 100962, 14946, 168162, 53474, 164578, 21218, 35554, 6882]
def kl_11 : List Nat := [102754, 45410, 99170, 13154, 34658, 5986, 143914, 115242, 136746, 50730, 104490, 47146, 143466, 114794, 132714, 18026, 100458, 14442, 135402, 49386, 131818, 17130, 35050, 6378, 102698, 45354, 99114, 13098, 34602, 5930]
def kl_12 : List Nat := [181315, 152643, 174147, 88131, 141891, 84547, 180867, 152195, 170115, 55427, 137859, 51843, 172803, 86787, 169219, 54531, 72451, 43779, 140099, 82755, 136515, 50499, 72003, 43331, 181259, 152587, 174091, 88075, 141835, 84491]
def kl_13 : List Nat := [180363, 151691, 166027, 22667, 133771, 19083, 172299, 86283, 165131, 21771, 68363, 11019, 139595, 82251, 132427, 17739, 67915, 10571, 180755, 152083, 170003, 55315, 137747, 51731, 180307, 151635, 165971, 22611, 133715, 19027]
def kl_14 : List Nat := [168211, 53523, 164627, 21267, 35603, 6931, 135507, 49491, 131923, 17235, 35155, 6483, 172579, 86563, 168995, 54307, 72227, 43555, 172131, 86115, 164963, 21603, 68195, 10851, 168099, 53411, 164515, 21155, 35491, 6819]
def kl_15 : List Nat := [69987, 41315, 66403, 9059, 34147, 5475, 139819, 82475, 136235, 50219, 71723, 43051, 139371, 82027, 132203, 17515, 67691, 10347, 135339, 49323, 131755, 17067, 34987, 6315, 69931, 41259, 66347, 9003, 34091, 5419]
def kl_16 : List Nat := [177220, 119876, 173636, 87620, 109124, 80452, 176772, 119428, 169604, 54916, 105092, 47748, 172740, 86724, 169156, 54468, 72388, 43716, 107332, 78660, 103748, 46404, 71492, 42820, 177164, 119820, 173580, 87564, 109068, 80396]
def kl_17 : List Nat := [176268, 118924, 165516, 22156, 101004, 14988, 172236, 86220, 165068, 21708, 68300, 10956, 106828, 78156, 99660, 13644, 67404, 10060, 176660, 119316, 169492, 54804, 104980, 47636, 176212, 118868, 165460, 22100, 100948, 14932]
def kl_18 : List Nat := [168148, 53460, 164564, 21204, 35540, 6868, 102740, 45396, 99156, 13140, 34644, 5972, 172572, 86556, 168988, 54300, 72220, 43548, 172124, 86108, 164956, 21596, 68188, 10844, 168092, 53404, 164508, 21148, 35484, 6812]
def kl_19 : List Nat := [69980, 41308, 66396, 9052, 34140, 5468, 107052, 78380, 103468, 46124, 71212, 42540, 106604, 77932, 99436, 13420, 67180, 9836, 102572, 45228, 98988, 12972, 34476, 5804, 69868, 41196, 66284, 8940, 34028, 5356]
def kl_20 : List Nat := [144453, 115781, 140869, 83525, 108613, 79941, 144005, 115333, 136837, 50821, 104581, 47237, 139973, 82629, 136389, 50373, 71877, 43205, 107269, 78597, 103685, 46341, 71429, 42757, 144397, 115725, 140813, 83469, 108557, 79885]
def kl_21 : List Nat := [143501, 114829, 132749, 18061, 100493, 14477, 139469, 82125, 132301, 17613, 67789, 10445, 106765, 78093, 99597, 13581, 67341, 9997, 143893, 115221, 136725, 50709, 104469, 47125, 143445, 114773, 132693, 18005, 100437, 14421]
def kl_22 : List Nat := [135381, 49365, 131797, 17109, 35029, 6357, 102677, 45333, 99093, 13077, 34581, 5909, 139805, 82461, 136221, 50205, 71709, 43037, 139357, 82013, 132189, 17501, 67677, 10333, 135325, 49309, 131741, 17053, 34973, 6301]
def kl_23 : List Nat := [69917, 41245, 66333, 8989, 34077, 5405, 107045, 78373, 103461, 46117, 71205, 42533, 106597, 77925, 99429, 13413, 67173, 9829, 102565, 45221, 98981, 12965, 34469, 5797, 69861, 41189, 66277, 8933, 34021, 5349]
def kl_all : List Nat := kl_0 ++ (kl_1 ++ (kl_2 ++ (kl_3 ++ (kl_4 ++ (kl_5 ++ (kl_6 ++ (kl_7 ++ (kl_8 ++ (kl_9 ++ (kl_10 ++ (kl_11 ++ (kl_12 ++ (kl_13 ++ (kl_14 ++ (kl_15 ++ (kl_16 ++ (kl_17 ++ (kl_18 ++ (kl_19 ++ (kl_20 ++ (kl_21 ++ (kl_22 ++ (kl_23)))))))))))))))))))))))
def kt_1 : List (Nat × Nat) := [(6, 3276587278411665446058127160076155519371989917586255422171950281968371598761100184799738729741562076860626846880034352464868931006585438753157782962176), (20, 3276587278411665446058127160076155519371989917586255422171950281968371598761100184799738729741562076860626846880034352464868931006585438753157782962176), (34, 3276587278411665446058127160076155519371989917586255422171950281968371598761100184799738729741562076860626846880034352464868931006585438753157782962176), (48, 3276587278411665446058127160076155519371989917586255422171950281968371598761100184799738729741562076860626846880034352464868931006585438753157782962176), (259, 3276587278411665446058127160076155519371989917586255422171950281968371598761100184799738729741562076860626846880034352464868931006585438753157782962176), (273, 3276587278411665446058127160076155519371989917586255422171950281968371598761100184799738729741562076860626846880034352464868931006585438753157782962176), (512, 3276587278411665446058127160076155519371989917586255422171950281968371598761100184799738729741562076860626846880034352464868931006585438753157782962176), (4098, 3276587278411665446058127160076155519371989917586255422171950281968371598761100184799738729741562076860626846880034352464868931006585438753157782962176), (4112, 3276587278411665446058127160076155519371989917586255422171950281968371598761100184799738729741562076860626846880034352464868931006585438753157782962176), (65537, 3276587278411665446058127160076155519371989917586255422171950281968371598761100184799738729741562076860626846880034352464868931006585438753157782962176), (1048576, 3276587278411665446058127160076155519371989917586255422171950281968371598761100184799738729741562076860626846880034352464868931006585438753157782962176)]
def kt_2 : List (Nat × Nat) := [(6, 203154804602554304807693588267048120549303622380848306842536347562035110914374482370086330707220802326263039362642812998092073294538258708505413195661312), (20, 98304011693381010533833605790539085204864302146446222256733198852456820993724484432886203130129687706660272027640789700198630003621760119233414724321280), (34, 45878615238794363396903614552284567532644639680702597189998396608187079244062461622297719990032918856162918313767783262383262860786555779234054761611264), (48, 19665917011501039828438618933157308696534806099288201882797771670643564248866591844518176773652329724956137502435439933646299298897132841597865616736256), (259, 45878615238794363396903614552284567532644642029245179963831624497667676033399485464286139341584130396858888360139778051251908358163510824597415488651264), (273, 19665917011501039828438618933157308696534808447830784656630995486052208369231450217003478419984534430914241456831280043475579289368953609234374780256256), (512, 6559567897854378044206121123593679278479891657123587003030680980244474537147432593362147959184736447941918005177031039587414754971675001552854426058752), (4098, 19665917011501039828438618933157308696534810796373367430464223375532805158568474058991897771535745971610211503203274832344224786745908654597735507296256), (4112, 6559567897854378044206121123593679278479891657123587003030683017280450871633515328113706811794239865310851051165108379107097508424242140416280207818752), (65537, 6559567897854378044206121123593679278479894005666169776863908869725071326484456435350567310735947988637888051549025828456060252348630046916215153098752), (1048576, 6393341031047152089872218811864569452434436041279563147138690598894183016977069911471830865194935488207825529942601837496613187796789825487503360000)]
def kt_3 : List (Nat × Nat) := [(6, 1769961301069733296743879875800240469836421085794423406666379102164586412509445931944082938036127063499946241098076329562739453204675930704606390089947137), (20, 491785382119693509480897602833709014155546612789884755785427681983645770492785471575599290626024650729295698817857271638990344555526548643589909866614785), (34, 118100992196018516980114546994106782030721391390612800270412135220740743196460289642362308860129896602284254216208364470828693821623976501304535563634689), (48, 19726653751295987773292379288860164540179450824751891561508887428455863488093746391635995834914003581475719329729869581698822519975410661575202339553281), (259, 118100992196018516980114546994106782030721393741448881660235434629789332663655986697906284296825070202561823437075762703583709766168468385461238951316481), (273, 19726653751295987773292379288860164540179453175587972951332182755471443165976240248503148420974294879103877365048047220181146437579137752431876067296257), (512, 28770034639712184404415507755021985532040387527902076356497127685488847640840683570627032789727854944567260747617614179214900987113438626694421282817), (4098, 19726653751295987773292379288860164540179455526424054341155482160541446741893644166804065872494901758586566389360649128325524244289385905111741531949057), (4112, 28770034639712184404415507755021985532040387527902076356499164723407851019149147393102056296940148808058405030178553427303447723670606657218673639425), (65537, 28770034639712184404415507755021985532042738363983466179796528776906532279951466355608082500105876966041836568170164435335240963536362687069308322817), (1048576, 9590011546570728134806974375172771749521000539368493605618467325550563677528509906475024314731951266675488307410922219341551914892381029641144500225)]
noncomputable def kc_A (e : Nat) : Bool := kt_in 1 e kt_1 && (kt_in 2 e kt_2 && kt_in 3 e kt_3)
theorem kt_ok1 : kt_ok 1 kt_1 = true := by decide +kernel
theorem kt_ok2 : kt_ok 2 kt_2 = true := by decide +kernel
theorem kt_ok3 : kt_ok 3 kt_3 = true := by decide +kernel
noncomputable def kc_R (e : Nat) : Bool := Nat.blt (pl_n (pm_s e) 6) 720 && Nat.beq (kl_all.getD (pl_n (pm_s e) 6) 0) e
theorem kr_all : pm_all kc_R = true := by decide +kernel
def kc_sl : List Nat := [6, 20, 34, 48, 259, 273, 512, 4098, 4112, 65537, 1048576]
noncomputable def kc_M (e : Nat) : Bool := kc_sl.contains (sh_e e) && ((cy_g (pm_s e) == some (sh_a (sh_e e))) && (Nat.beq (pm_pw e 60) 181896 && (Nat.beq (cs_c (fun i => pm_im e i == i) 6) (sh_c (sh_e e) 1) && Nat.beq (cs_c (fun x => ac_S x && ac_q e x == x) 36) (sh_c (sh_e e) 1 * (sh_c (sh_e e) 1 - 1) / 2 + sh_c (sh_e e) 2))))
theorem km_all : kl_all.all kc_M = true := by decide +kernel
/-- six digits that show all six numbers -/
def kc_o (a b c d e f : Nat) : Nat := (((((0 ||| 2 ^ a) ||| 2 ^ b) ||| 2 ^ c) ||| 2 ^ d) ||| 2 ^ e) ||| 2 ^ f
def kc_df (a b c d e f : Nat) : Bool := !(Nat.beq a b) && (!(Nat.beq a c) && (!(Nat.beq a d) && (!(Nat.beq a e) && (!(Nat.beq a f) && (!(Nat.beq b c) && (!(Nat.beq b d) && (!(Nat.beq b e) && (!(Nat.beq b f) && (!(Nat.beq c d) && (!(Nat.beq c e) && (!(Nat.beq c f) && (!(Nat.beq d e) && (!(Nat.beq d f) && !(Nat.beq e f))))))))))))))
theorem ko_all : (pm_l fun a => pm_l fun b => pm_l fun c => pm_l fun d => pm_l fun e => pm_l fun f => !(Nat.beq (kc_o a b c d e f) 63) || kc_df a b c d e f) = true := by decide +kernel
end
section
/-! the checks over all rearrangements, thirty at a time -/
theorem ka_0 : kl_0.all kc_A = true := by decide +kernel
theorem ka_1 : kl_1.all kc_A = true := by decide +kernel
theorem ka_2 : kl_2.all kc_A = true := by decide +kernel
theorem ka_3 : kl_3.all kc_A = true := by decide +kernel
theorem ka_4 : kl_4.all kc_A = true := by decide +kernel
theorem ka_5 : kl_5.all kc_A = true := by decide +kernel
theorem ka_6 : kl_6.all kc_A = true := by decide +kernel
theorem ka_7 : kl_7.all kc_A = true := by decide +kernel
theorem ka_8 : kl_8.all kc_A = true := by decide +kernel
theorem ka_9 : kl_9.all kc_A = true := by decide +kernel
theorem ka_10 : kl_10.all kc_A = true := by decide +kernel
theorem ka_11 : kl_11.all kc_A = true := by decide +kernel
theorem ka_12 : kl_12.all kc_A = true := by decide +kernel
theorem ka_13 : kl_13.all kc_A = true := by decide +kernel
theorem ka_14 : kl_14.all kc_A = true := by decide +kernel
theorem ka_15 : kl_15.all kc_A = true := by decide +kernel
theorem ka_16 : kl_16.all kc_A = true := by decide +kernel
theorem ka_17 : kl_17.all kc_A = true := by decide +kernel
theorem ka_18 : kl_18.all kc_A = true := by decide +kernel
theorem ka_19 : kl_19.all kc_A = true := by decide +kernel
theorem ka_20 : kl_20.all kc_A = true := by decide +kernel
theorem ka_21 : kl_21.all kc_A = true := by decide +kernel
theorem ka_22 : kl_22.all kc_A = true := by decide +kernel
theorem ka_23 : kl_23.all kc_A = true := by decide +kernel
theorem ka_all : kl_all.all kc_A = true := by
  unfold kl_all
  simp only [List.all_append, ka_0, ka_1, ka_2, ka_3, ka_4, ka_5, ka_6, ka_7, ka_8, ka_9, ka_10, ka_11, ka_12, ka_13, ka_14, ka_15, ka_16, ka_17, ka_18, ka_19, ka_20, ka_21, ka_22, ka_23, Bool.and_self]
theorem kx_0 : kl_0.all kc_X = true := by decide +kernel
theorem kx_1 : kl_1.all kc_X = true := by decide +kernel
theorem kx_2 : kl_2.all kc_X = true := by decide +kernel
theorem kx_3 : kl_3.all kc_X = true := by decide +kernel
theorem kx_4 : kl_4.all kc_X = true := by decide +kernel
theorem kx_5 : kl_5.all kc_X = true := by decide +kernel
theorem kx_6 : kl_6.all kc_X = true := by decide +kernel
theorem kx_7 : kl_7.all kc_X = true := by decide +kernel
theorem kx_8 : kl_8.all kc_X = true := by decide +kernel
theorem kx_9 : kl_9.all kc_X = true := by decide +kernel
theorem kx_10 : kl_10.all kc_X = true := by decide +kernel
theorem kx_11 : kl_11.all kc_X = true := by decide +kernel
theorem kx_12 : kl_12.all kc_X = true := by decide +kernel
theorem kx_13 : kl_13.all kc_X = true := by decide +kernel
theorem kx_14 : kl_14.all kc_X = true := by decide +kernel
theorem kx_15 : kl_15.all kc_X = true := by decide +kernel
theorem kx_16 : kl_16.all kc_X = true := by decide +kernel
theorem kx_17 : kl_17.all kc_X = true := by decide +kernel
theorem kx_18 : kl_18.all kc_X = true := by decide +kernel
theorem kx_19 : kl_19.all kc_X = true := by decide +kernel
theorem kx_20 : kl_20.all kc_X = true := by decide +kernel
theorem kx_21 : kl_21.all kc_X = true := by decide +kernel
theorem kx_22 : kl_22.all kc_X = true := by decide +kernel
theorem kx_23 : kl_23.all kc_X = true := by decide +kernel
theorem kx_all : kl_all.all kc_X = true := by
  unfold kl_all
  simp only [List.all_append, kx_0, kx_1, kx_2, kx_3, kx_4, kx_5, kx_6, kx_7, kx_8, kx_9, kx_10, kx_11, kx_12, kx_13, kx_14, kx_15, kx_16, kx_17, kx_18, kx_19, kx_20, kx_21, kx_22, kx_23, Bool.and_self]
end
section
/-! what the checks say of every rearrangement -/
theorem kf_mem {e : Nat} (he : pm_P e) : e ∈ kl_all := by
  have h := pm_sound kr_all he
  obtain ⟨h1, h2⟩ := Bool.and_eq_true_iff.mp h
  have e2 := Nat.eq_of_beq_eq_true h2
  have h1 : pl_n (pm_s e) 6 < 720 := by rw [Nat.blt_eq] at h1; exact h1
  have hl : kl_all.length = 720 := by decide +kernel
  have h3 : pl_n (pm_s e) 6 < kl_all.length := by omega
  rw [List.getD_eq_getElem?_getD, List.getElem?_eq_getElem h3] at e2
  have e2 : kl_all[pl_n (pm_s e) 6] = e := e2
  rw [← e2]
  exact List.getElem_mem h3
theorem kf_pl {e : Nat} (he : pm_P e) : pl_n (pm_s e) 6 < 720 := by
  have h := pm_sound kr_all he
  obtain ⟨h1, h2⟩ := Bool.and_eq_true_iff.mp h
  rw [Nat.blt_eq] at h1; exact h1
theorem kf_plinj {e e' : Nat} (he : pm_P e) (he' : pm_P e') (h : pl_n (pm_s e) 6 = pl_n (pm_s e') 6) : e = e' := by
  have a := (Bool.and_eq_true_iff.mp (pm_sound kr_all he)).2
  have b := (Bool.and_eq_true_iff.mp (pm_sound kr_all he')).2
  rw [← Nat.eq_of_beq_eq_true a, ← Nat.eq_of_beq_eq_true b, h]
theorem kf_M {e : Nat} (he : pm_P e) : sh_e e ∈ kc_sl ∧ cy_g (pm_s e) = some (sh_a (sh_e e)) ∧ pm_pw e 60 = 181896 ∧ cs_c (fun i => pm_im e i == i) 6 = sh_c (sh_e e) 1 ∧ cs_c (fun x => ac_S x && ac_q e x == x) 36 = sh_c (sh_e e) 1 * (sh_c (sh_e e) 1 - 1) / 2 + sh_c (sh_e e) 2 := by
  have h := List.all_eq_true.mp km_all e (kf_mem he)
  obtain ⟨h1, h⟩ := Bool.and_eq_true_iff.mp h
  obtain ⟨h2, h⟩ := Bool.and_eq_true_iff.mp h
  obtain ⟨h3, h⟩ := Bool.and_eq_true_iff.mp h
  obtain ⟨h4, h5⟩ := Bool.and_eq_true_iff.mp h
  exact ⟨List.contains_iff_mem.mp h1, beq_iff_eq.mp h2, Nat.eq_of_beq_eq_true h3, Nat.eq_of_beq_eq_true h4, Nat.eq_of_beq_eq_true h5⟩
theorem kf_sl {s : Nat} (h : s ∈ kc_sl) : s < 2 ^ 24 ∧ sh_a s ≤ 6 ∧ (∀ i, i < 7 → sh_c s i ≤ 6) := by
  have a : kc_sl.all (fun s => Nat.blt s (2 ^ 24) && (Nat.ble (sh_a s) 6 && (Nat.ble (sh_c s 6) 6 && pm_l (fun i => Nat.ble (sh_c s i) 6)))) = true := by decide +kernel
  have b := List.all_eq_true.mp a s h
  obtain ⟨b1, b⟩ := Bool.and_eq_true_iff.mp b
  obtain ⟨b2, b⟩ := Bool.and_eq_true_iff.mp b
  obtain ⟨b3, b4⟩ := Bool.and_eq_true_iff.mp b
  rw [Nat.blt_eq] at b1
  refine ⟨b1, Nat.le_of_ble_eq_true b2, fun i hi => ?_⟩
  by_cases e : i = 6
  · subst e; exact Nat.le_of_ble_eq_true b3
  · exact Nat.le_of_ble_eq_true ((pm_li _).mp b4 i (by omega))
theorem kf_nb {a b : Nat} (h : (!(Nat.beq a b)) = true) : a ≠ b := by
  intro e
  subst e
  rw [Nat.beq_refl] at h
  exact absurd h (by decide)
theorem kf_o {d : Nat → Nat} (hd : ∀ i, i < 6 → d i < 6) (h : kc_o (d 0) (d 1) (d 2) (d 3) (d 4) (d 5) = 63) : ∀ i, i < 6 → ∀ j, j < 6 → d i = d j → i = j := by
  have a := (pm_li _).mp ((pm_li _).mp ((pm_li _).mp ((pm_li _).mp ((pm_li _).mp ((pm_li _).mp ko_all _ (hd 0 (by decide))) _ (hd 1 (by decide))) _ (hd 2 (by decide))) _ (hd 3 (by decide))) _ (hd 4 (by decide))) _ (hd 5 (by decide))
  try dsimp only at a
  rw [h] at a
  have a : kc_df (d 0) (d 1) (d 2) (d 3) (d 4) (d 5) = true := a
  unfold kc_df at a
  simp only [Bool.and_eq_true] at a
  obtain ⟨a1, a2, a3, a4, a5, a6, a7, a8, a9, a10, a11, a12, a13, a14, a15⟩ := a
  have a1 := kf_nb a1
  have a2 := kf_nb a2
  have a3 := kf_nb a3
  have a4 := kf_nb a4
  have a5 := kf_nb a5
  have a6 := kf_nb a6
  have a7 := kf_nb a7
  have a8 := kf_nb a8
  have a9 := kf_nb a9
  have a10 := kf_nb a10
  have a11 := kf_nb a11
  have a12 := kf_nb a12
  have a13 := kf_nb a13
  have a14 := kf_nb a14
  have a15 := kf_nb a15
  refine pm_6 ?_ ?_ ?_ ?_ ?_ ?_ <;> refine pm_6 ?_ ?_ ?_ ?_ ?_ ?_ <;> intro h' <;> omega
theorem kf_ff {c e x : Nat} (hc : 0 < c) (he : pm_P e) (hx : x < c ^ 6) : (ac_a c e x == x) = kc_f c e x := by
  rw [Bool.eq_iff_iff, beq_iff_eq, ac_eq hc he hx]
  unfold kc_f
  rw [pm_li]
  constructor
  · intro h i hi
    show Nat.beq (ac_d c x (pm_im e i)) (ac_d c x i) = true
    rw [h i hi]; exact Nat.beq_refl _
  · intro h i hi
    exact Nat.eq_of_beq_eq_true (h i hi)
theorem kf_tt (c d : Nat) : kc_t c d = ac_t c d := by
  unfold kc_t ac_t
  by_cases h : d < 2 ∧ 1 < c
  · rw [if_pos h]
    have : (Nat.blt d 2 && Nat.blt 1 c) = true := by rw [Bool.and_eq_true_iff, Nat.blt_eq, Nat.blt_eq]; exact h
    rw [this]; rfl
  · rw [if_neg h]
    have : (Nat.blt d 2 && Nat.blt 1 c) = false := by
      rw [← Bool.not_eq_true, Bool.and_eq_true_iff, Nat.blt_eq, Nat.blt_eq]; exact h
    rw [this]; rfl
theorem kf_xx {c e x : Nat} (hc : 0 < c) (he : pm_P e) (hx : x < c ^ 6) : (ac_a c e x == ac_x c x) = kc_x c e x := by
  rw [Bool.eq_iff_iff, beq_iff_eq, ac_eq hc he (ac_xd hc).1]
  unfold kc_x
  rw [pm_li]
  constructor
  · intro h i hi
    show Nat.beq (kc_t c (ac_d c x (pm_im e i))) (ac_d c x i) = true
    rw [← h i hi, (ac_xd hc).2 _ (he.2.1 i hi), kf_tt]; exact Nat.beq_refl _
  · intro h i hi
    have := Nat.eq_of_beq_eq_true (h i hi)
    rw [(ac_xd hc).2 _ (he.2.1 i hi), ← kf_tt]
    exact this
theorem kf_bb (a b : Nat) : kc_b (Nat.beq a b) = (a == b).toNat := by
  by_cases h : a = b
  · subst h; rw [Nat.beq_refl, cs_beqt rfl]; rfl
  · have : Nat.beq a b = false := by
      cases h3 : Nat.beq a b with
      | false => rfl
      | true => exact absurd (Nat.eq_of_beq_eq_true h3) h
    rw [this, cs_beqf h]; rfl
theorem kf_nn (c x d : Nat) : kc_n c x d = ac_n c x d := by
  unfold kc_n
  rw [kf_bb, kf_bb, kf_bb, kf_bb, kf_bb, kf_bb]
  show _ = 0 + (ac_d c x 0 == d).toNat + (ac_d c x 1 == d).toNat + (ac_d c x 2 == d).toNat + (ac_d c x 3 == d).toNat + (ac_d c x 4 == d).toNat + (ac_d c x 5 == d).toNat
  rw [Nat.zero_add]; rfl
theorem kf_kk {c x m n : Nat} (hn : n < 7) : (ac_n c x 0 == m && ac_n c x 1 == n) = Nat.beq (kc_k c x) (7 * m + n) := by
  have h1 : ac_n c x 1 ≤ 6 := cs_cle _ _
  have e : kc_k c x = 7 * ac_n c x 0 + ac_n c x 1 := by
    show 7 * kc_n c x 0 + kc_n c x 1 = _
    rw [kf_nn, kf_nn]
  rw [Bool.eq_iff_iff, Bool.and_eq_true_iff, beq_iff_eq, beq_iff_eq, Nat.beq_eq, e]
  omega
noncomputable def ac_al (c x : Nat) : Bool := Nat.rec true (fun d r => r && Nat.blt 0 (ac_n c x d)) c
theorem kf_al (c x : Nat) : kc_al c x = ac_al c x := by
  have h : ∀ j, (Nat.rec true (fun d r => r && Nat.blt 0 (kc_n c x d)) j : Bool) = Nat.rec true (fun d r => r && Nat.blt 0 (ac_n c x d)) j := by
    intro j
    induction j with
    | zero => rfl
    | succ j ih =>
      show ((Nat.rec true (fun d r => r && Nat.blt 0 (kc_n c x d)) j : Bool) && Nat.blt 0 (kc_n c x j)) = ((Nat.rec true (fun d r => r && Nat.blt 0 (ac_n c x d)) j : Bool) && Nat.blt 0 (ac_n c x j))
      rw [ih, kf_nn]
  exact h c
/-! the sums of the kernel are counts -/
theorem kg_hi {c y q n i : Nat} (hc : 0 < c) (hy : y < c ^ n) (hi : n ≤ i) : ac_d c (y + q * c ^ n) i = ac_d c (q * c ^ n) i := by
  obtain ⟨t, rfl⟩ : ∃ t, i = n + t := ⟨i - n, by omega⟩
  unfold ac_d
  rw [Nat.pow_add, ← Nat.div_div_eq_div_mul, ← Nat.div_div_eq_div_mul, Nat.add_mul_div_right _ _ (Nat.pow_pos hc), Nat.div_eq_of_lt hy, Nat.zero_add, Nat.mul_div_cancel _ (Nat.pow_pos hc)]
theorem kg_ho {c e : Nat} (T : Nat → Nat) (hc : 0 < c) {n q y : Nat} (hy : y < c ^ n) (h : kg_o T c e n (q * c ^ n) = false) : kg_f T c e (y + q * c ^ n) = false := by
  cases hf : kg_f T c e (y + q * c ^ n) with
  | false => rfl
  | true =>
    have hf := (pm_li _).mp hf
    have : kg_o T c e n (q * c ^ n) = true := (pm_li _).mpr (fun j hj => by
      cases h1 : Nat.blt j n with
      | true => rfl
      | false =>
        cases h2 : Nat.blt (kc_i e j) n with
        | true => rfl
        | false =>
          have h1 : ¬ j < n := by rw [← Nat.blt_eq, h1]; decide
          have h2 : ¬ kc_i e j < n := by rw [← Nat.blt_eq, h2]; decide
          have h3 := hf j hj
          have e1 : kc_d c (y + q * c ^ n) j = kc_d c (q * c ^ n) j := kg_hi hc hy (by omega)
          have e2 : kc_d c (y + q * c ^ n) (kc_i e j) = kc_d c (q * c ^ n) (kc_i e j) := kg_hi hc hy (by omega)
          rw [e1, e2] at h3
          exact h3)
    rw [this] at h
    exact absurd h (by decide)
theorem kg_sum {f : Nat → Bool} {o : Nat → Nat → Bool} {w : Nat → Nat} {c : Nat} (ho : ∀ n q y, y < c ^ n → o n (q * c ^ n) = false → f (y + q * c ^ n) = false) : ∀ n q, kg_R f o w c n (q * c ^ n) = cs_s (fun y => cond (f (y + q * c ^ n)) (w (y + q * c ^ n)) 0) (c ^ n) := by
  intro n
  induction n with
  | zero =>
    intro q
    show cond (f (q * c ^ 0)) (w (q * c ^ 0)) 0 = 0 + cond (f (0 + q * c ^ 0)) (w (0 + q * c ^ 0)) 0
    rw [Nat.zero_add, Nat.zero_add]
  | succ n ih =>
    intro q
    have e0 : c ^ (n + 1) = c * c ^ n := by rw [Nat.pow_succ, Nat.mul_comm]
    have ez : ∀ d, q * c ^ (n + 1) + d * c ^ n = (q * c + d) * c ^ n := fun d => by rw [e0, Nat.add_mul, Nat.mul_assoc]
    have e1 : cs_s (fun y => cond (f (y + q * c ^ (n + 1))) (w (y + q * c ^ (n + 1))) 0) (c ^ (n + 1)) = cs_s (fun d => cs_s (fun y => cond (f (y + d * c ^ n + q * c ^ (n + 1))) (w (y + d * c ^ n + q * c ^ (n + 1))) 0) (c ^ n)) c := by
      rw [show cs_s (fun y => cond (f (y + q * c ^ (n + 1))) (w (y + q * c ^ (n + 1))) 0) (c ^ (n + 1)) = cs_s (fun y => cond (f (y + q * c ^ (n + 1))) (w (y + q * c ^ (n + 1))) 0) (c * c ^ n) from congrArg _ e0, cs_blk]
    rw [e1]
    show cs_s (fun d => cond (o n (q * c ^ (n + 1) + d * c ^ n)) (kg_R f o w c n (q * c ^ (n + 1) + d * c ^ n)) 0) c = _
    apply cs_congr
    intro d _
    rw [ez d, ih]
    have e2 : ∀ y, y + d * c ^ n + q * c ^ (n + 1) = y + (q * c + d) * c ^ n := fun y => by rw [← ez d]; omega
    cases h : o n ((q * c + d) * c ^ n) with
    | true => exact cs_congr fun y _ => by rw [e2]
    | false =>
      show 0 = _
      exact (cs_zero fun y hy => by rw [e2, ho n _ y hy h]; rfl).symm
noncomputable def kg_P (c j x : Nat) : Bool := cond (Nat.blt j 49) (Nat.beq (kc_k c x) j) (cond (Nat.beq j 49) true (kc_al c x))
theorem kg_w (c x : Nat) : kw_w c x = cs_s (fun j => (kg_P c j x).toNat * 1024 ^ j) 51 := by
  have h0 : ac_n c x 0 ≤ 6 := cs_cle _ _
  have h1 : ac_n c x 1 ≤ 6 := cs_cle _ _
  have hk : kc_k c x < 49 := by
    show 7 * kc_n c x 0 + kc_n c x 1 < 49
    rw [kf_nn, kf_nn]; omega
  have e : cs_s (fun j => (kg_P c j x).toNat * 1024 ^ j) 49 = 1024 ^ kc_k c x := by
    rw [← cs_pick (fun j => 1024 ^ j) hk]
    apply cs_congr
    intro j hj
    have b : Nat.blt j 49 = true := by rw [Nat.blt_eq]; exact hj
    rw [kg_P, b, ← kf_bb]
    cases Nat.beq (kc_k c x) j <;> rfl
  show kw_w c x = cs_s (fun j => (kg_P c j x).toNat * 1024 ^ j) 49 + 1 * 1024 ^ 49 + (kc_al c x).toNat * 1024 ^ 50
  rw [e]
  unfold kw_w
  cases kc_al c x
  · show 1024 ^ kc_k c x + 1024 ^ 49 + 0 = _
    rw [Nat.one_mul]
    exact congrArg _ (Nat.zero_mul _).symm
  · show 1024 ^ kc_k c x + 1024 ^ 49 + 1024 ^ 50 = _
    rw [Nat.one_mul]
    exact congrArg _ (Nat.one_mul _).symm
theorem kg_Ax {c : Nat} (e x : Nat) : cond (kg_f (fun d => d) c e x) (kw_w c x) 0 = cs_s (fun j => 1024 ^ j * (kg_P c j x && kc_f c e x).toNat) 51 := by
  have e0 : kg_f (fun d => d) c e x = kc_f c e x := rfl
  rw [kg_w, e0]
  generalize kc_f c e x = b
  cases b with
  | false =>
    have h := cs_zero (f := fun j => 1024 ^ j * (kg_P c j x && false).toNat) (n := 51) (fun j _ => by rw [Bool.and_false]; exact Nat.mul_zero _)
    rw [cond_false]
    exact h.symm
  | true =>
    have h : cs_s (fun j => (kg_P c j x).toNat * 1024 ^ j) 51 = cs_s (fun j => 1024 ^ j * (kg_P c j x && true).toNat) 51 := cs_congr fun j _ => by rw [Bool.and_true, Nat.mul_comm]
    rw [cond_true]
    exact h
theorem kg_Ae {c : Nat} (hc : 0 < c) (e : Nat) : kg_A c e = cs_s (fun j => cs_c (fun x => kg_P c j x && kc_f c e x) (c ^ 6) * 1024 ^ j) 51 := by
  have h := kg_sum (f := kg_f (fun d => d) c e) (o := kg_o (fun d => d) c e) (w := kw_w c) (c := c) (fun n q y hy h => kg_ho _ hc hy h) 6 0
  rw [Nat.zero_mul] at h
  have h0 : kg_A c e = kg_R (kg_f (fun d => d) c e) (kg_o (fun d => d) c e) (kw_w c) c 6 0 := by unfold kg_A; rfl
  have h1 : cs_s (fun y => cond (kg_f (fun d => d) c e (y + 0)) (kw_w c (y + 0)) 0) (c ^ 6) = cs_s (fun x => cs_s (fun j => 1024 ^ j * (kg_P c j x && kc_f c e x).toNat) 51) (c ^ 6) := cs_congr fun x _ => by rw [Nat.add_zero]; exact kg_Ax e x
  have h2 := cs_swap (fun j x => 1024 ^ j * (kg_P c j x && kc_f c e x).toNat) 51 (c ^ 6)
  have h3 : cs_s (fun j => cs_s (fun x => 1024 ^ j * (kg_P c j x && kc_f c e x).toNat) (c ^ 6)) 51 = cs_s (fun j => cs_c (fun x => kg_P c j x && kc_f c e x) (c ^ 6) * 1024 ^ j) 51 := cs_congr fun j _ => by
    rw [cs_mul, Nat.mul_comm]
    generalize 1024 ^ j = z
    rfl
  rw [h0, h, h1, h2, h3]
theorem kg_Aw {c : Nat} (hc : 0 < c) (h3 : c ≤ 3) (e : Nat) {j : Nat} (hj : j < 51) : kg_A c e / 1024 ^ j % 1024 = cs_c (fun x => kg_P c j x && kc_f c e x) (c ^ 6) := by
  have h6 : c ^ 6 ≤ 3 ^ 6 := Nat.pow_le_pow_left h3 6
  have hD : ∀ j, j < 51 → cs_c (fun x => kg_P c j x && kc_f c e x) (c ^ 6) < 1024 := fun j _ => by
    have := cs_cle (fun x => kg_P c j x && kc_f c e x) (c ^ 6)
    omega
  rw [kg_Ae hc e]
  exact (ac_num (c := 1024) (by decide) (fun j => cs_c (fun x => kg_P c j x && kc_f c e x) (c ^ 6)) 51 hD).2 j hj
theorem kf_A {c e : Nat} (hc : 0 < c) (h3 : c ≤ 3) (he : pm_P e) : kg_A c e / 1024 ^ 49 % 1024 = c ^ sh_a (sh_e e) ∧ kt_l c (kg_A c e / 1024 ^ 50 % 1024) (sh_a (sh_e e)) = true ∧ ∀ j, j < 49 → j / 7 + j % 7 ≤ 6 → kg_A c e / 1024 ^ j % 1024 = dp_w c (sh_e e) j := by
  have hx : ∃ t, kt_ok c t = true ∧ kt_in c e t = true := by
    have h := List.all_eq_true.mp ka_all e (kf_mem he)
    obtain ⟨h1, h⟩ := Bool.and_eq_true_iff.mp h
    obtain ⟨h2, h4⟩ := Bool.and_eq_true_iff.mp h
    rcases (show c = 1 ∨ c = 2 ∨ c = 3 by omega) with r | r | r <;> subst r
    · exact ⟨_, kt_ok1, h1⟩
    · exact ⟨_, kt_ok2, h2⟩
    · exact ⟨_, kt_ok3, h4⟩
  obtain ⟨t, ht, hi⟩ := hx
  obtain ⟨p, hp, hq⟩ := List.any_eq_true.mp hi
  obtain ⟨q1, q2⟩ := Bool.and_eq_true_iff.mp hq
  have q1 := Nat.eq_of_beq_eq_true q1
  have q2 := Nat.eq_of_beq_eq_true q2
  have hk := List.all_eq_true.mp ht p hp
  obtain ⟨k1, hk⟩ := Bool.and_eq_true_iff.mp hk
  obtain ⟨k2, k3⟩ := Bool.and_eq_true_iff.mp hk
  rw [q1, q2] at k1 k2
  refine ⟨Nat.eq_of_beq_eq_true k1, k2, fun j hj h6 => ?_⟩
  have k4 := List.all_eq_true.mp k3 j (List.mem_range.mpr hj)
  have e1 : Nat.blt 6 (j / 7 + j % 7) = false := by rw [← Bool.not_eq_true, Nat.blt_eq]; omega
  rw [e1, Bool.false_or, q1, q2] at k4
  exact Nat.eq_of_beq_eq_true k4
theorem kf_1 {c e : Nat} (hc : 0 < c) (h3 : c ≤ 3) (he : pm_P e) : cs_c (fun x => true && ac_a c e x == x) (c ^ 6) = c ^ sh_a (sh_e e) := by
  rw [← (kf_A hc h3 he).1, kg_Aw hc h3 e (by decide)]
  exact cs_ccongr fun x hx => by rw [kf_ff hc he hx]; rfl
theorem kf_2 {c e m n : Nat} (hc : 0 < c) (h3 : c ≤ 3) (he : pm_P e) (h : m + n ≤ 6) : cs_c (fun x => (ac_n c x 0 == m && ac_n c x 1 == n) && ac_a c e x == x) (c ^ 6) = dp_w c (sh_e e) (7 * m + n) := by
  rw [← (kf_A hc h3 he).2.2 (7 * m + n) (by omega) (by omega), kg_Aw hc h3 e (by omega)]
  have b : Nat.blt (7 * m + n) 49 = true := by rw [Nat.blt_eq]; omega
  exact cs_ccongr fun x hx => by rw [kf_ff hc he hx, kf_kk (by omega), kg_P, b]; rfl
theorem kf_B0 {c e : Nat} (hc : 0 < c) (h3 : c ≤ 3) (he : pm_P e) : kt_l c (cs_c (fun x => ac_al c x && ac_a c e x == x) (c ^ 6)) (sh_a (sh_e e)) = true := by
  have h := (kf_A hc h3 he).2.1
  rw [kg_Aw hc h3 e (by decide)] at h
  rw [← h]
  exact congrArg (fun v => kt_l c v (sh_a (sh_e e))) (cs_ccongr fun x hx => by rw [kf_ff hc he hx, ← kf_al]; rfl)
theorem kf_B {e : Nat} (he : pm_P e) : cs_c (fun x => ac_al 1 x && ac_a 1 e x == x) (1 ^ 6) = 1 ∧ cs_c (fun x => ac_al 2 x && ac_a 2 e x == x) (2 ^ 6) + 2 = 2 ^ sh_a (sh_e e) ∧ cs_c (fun x => ac_al 3 x && ac_a 3 e x == x) (3 ^ 6) + 3 * 2 ^ sh_a (sh_e e) = 3 ^ sh_a (sh_e e) + 3 :=
  ⟨Nat.eq_of_beq_eq_true (kf_B0 (c := 1) (by decide) (by decide) he), Nat.eq_of_beq_eq_true (kf_B0 (c := 2) (by decide) (by decide) he), Nat.eq_of_beq_eq_true (kf_B0 (c := 3) (by decide) (by decide) he)⟩
theorem kg_Xw {c : Nat} (hc : 0 < c) (e : Nat) : kg_X c e = cs_c (kc_x c e) (c ^ 6) := by
  have h := kg_sum (f := kg_f (kc_t c) c e) (o := kg_o (kc_t c) c e) (w := fun _ => 1) (c := c) (fun n q y hy h => kg_ho _ hc hy h) 6 0
  rw [Nat.zero_mul] at h
  show kg_R (kg_f (kc_t c) c e) (kg_o (kc_t c) c e) (fun _ => 1) c 6 0 = _
  rw [h]
  exact cs_congr fun x _ => by
    show cond (kc_x c e x) 1 0 = _
    cases kc_x c e x <;> rfl
theorem kf_X {c e : Nat} (hc : 1 < c) (h3 : c ≤ 3) (he : pm_P e) : cs_c (fun x => ac_a c e x == ac_x c x) (c ^ 6) = se_p c (sh_e e) 6 := by
  have h := List.all_eq_true.mp kx_all e (kf_mem he)
  obtain ⟨h1, h2⟩ := Bool.and_eq_true_iff.mp h
  rw [cs_ccongr (fun x hx => kf_xx (by omega) he hx)]
  show cs_c (kc_x c e) (c ^ 6) = _
  rw [← kg_Xw (by omega)]
  rcases (show c = 2 ∨ c = 3 by omega) with r | r <;> subst r
  · exact Nat.eq_of_beq_eq_true h1
  · exact Nat.eq_of_beq_eq_true h2
/-! powers: from what comes of one back to it -/
theorem pm_pwP {e : Nat} (he : pm_P e) : ∀ n, pm_P (pm_pw e n) := by
  intro n
  induction n with
  | zero => exact pm_idP
  | succ n ih => exact pm_cmpP ih he
theorem pm_pwc {e : Nat} (he : pm_P e) : ∀ n, pm_cmp e (pm_pw e n) = pm_pw e (n + 1) := by
  intro n
  induction n with
  | zero =>
    show pm_cmp e 181896 = pm_cmp 181896 e
    rw [pm_cid he, pm_idc he]
  | succ n ih =>
    show pm_cmp e (pm_cmp (pm_pw e n) e) = pm_cmp (pm_pw e (n + 1)) e
    rw [← pm_assoc he (pm_pwP he n), ih]
theorem ac_back {c e : Nat} (hc : 0 < c) (he : pm_P e) {P : Nat → Prop} (hP : ∀ y, y < c ^ 6 → P y → P (ac_a c e y)) {x : Nat} (hx : x < c ^ 6) (h : P (ac_a c e x)) : P x := by
  have k : ∀ n, P (ac_a c (pm_pw e n) (ac_a c e x)) := by
    intro n
    induction n with
    | zero =>
      show P (ac_a c 181896 (ac_a c e x))
      rw [ac_id hc (ac_lt hc he)]; exact h
    | succ n ih =>
      show P (ac_a c (pm_cmp (pm_pw e n) e) (ac_a c e x))
      rw [ac_mul hc (pm_pwP he n) he]
      exact hP _ (ac_lt hc (pm_pwP he n)) ih
  have h2 := k 59
  rw [← ac_mul hc he (pm_pwP he 59), pm_pwc he 59, (kf_M he).2.2.1, ac_id hc hx] at h2
  exact h2
end
section
/-! what the averages over the group are -/
theorem cs_c0f {p : Nat → Bool} : ∀ {n : Nat}, cs_c p n = 0 → ∀ k, k < n → p k = false := by
  intro n
  induction n with
  | zero => intro _ k hk; omega
  | succ n ih =>
    intro h k hk
    rw [cs_c1] at h
    by_cases e : k = n
    · subst e
      cases hp : p k with
      | false => rfl
      | true => rw [hp] at h; exact absurd h (by show ¬ cs_c p k + 1 = 0; omega)
    · exact ih (by omega) k (by omega)
theorem cs_cnt {p : Nat → Bool} : ∀ {n : Nat}, cs_c p n = n → ∀ k, k < n → p k = true := by
  intro n
  induction n with
  | zero => intro _ k hk; omega
  | succ n ih =>
    intro h k hk
    rw [cs_c1] at h
    have h1 := cs_cle p n
    have h2 := cs_bt (p n)
    by_cases e : k = n
    · subst e
      cases hp : p k with
      | true => rfl
      | false => rw [hp] at h; exact absurd h (by show ¬ cs_c p k + 0 = k + 1; omega)
    · exact ih (by omega) k (by omega)
theorem gr_bd {n : Nat} {a : Nat → Nat} (h1 : ∀ k, k < n → pm_P (a k)) (h2 : ∀ k k', k < n → k' < n → a k = a k' → k = k') : n ≤ 720 :=
  cs_pig (fun k => pl_n (pm_s (a k)) 6) (fun k hk => kf_pl (h1 k hk)) (fun k k' hk hk' h => h2 k k' hk hk' (kf_plinj (h1 k hk) (h1 k' hk') h))
/-- names of kinds: what the reference's marks satisfy -/
def nk_N (m : Nat) (e : Nat → Nat) (c : Nat) (f : Nat → Nat) : Prop :=
  (∀ x, x < c ^ 6 → f x ≤ x) ∧ (∀ x, x < c ^ 6 → ∀ i, i < m → f (ac_a c (e i) x) = f x) ∧
  ∀ x, x < c ^ 6 → ∀ P : Nat → Prop, P (f x) → (∀ y, P y → ∀ i, i < m → P (ac_a c (e i) y)) → P x
section
variable {m n c : Nat} {e a f : Nat → Nat}
theorem gr_720 (G : gr_G m e n a) : n ≤ 720 := gr_bd G.2.1 G.2.2.1
theorem ac_AT (G : gr_G m e n a) (hc : 0 < c) : bu_A n (c ^ 6) (fun _ => true) (fun k x => ac_a c (a k) x) := ac_A G hc (fun _ _ _ _ => rfl)
theorem nk_con (G : gr_G m e n a) (hc : 0 < c) (H : nk_N m e c f) {x k : Nat} (hx : x < c ^ 6) (hk : k < n) : f (ac_a c (a k) x) = f x :=
  gr_orb G (B := ac_a c) (S := fun _ => true) (ac_b1 hc (fun _ _ _ _ => rfl)) (ac_b2 hc _) (ac_b3 hc _) (T := fun y => f y = f x) hx rfl rfl (fun y hy _ hT i hi => by
    show f (ac_a c (e i) y) = f x
    rw [H.2.1 y hy i hi]; exact hT) k hk
theorem nk_lo (G : gr_G m e n a) (hc : 0 < c) (H : nk_N m e c f) {x : Nat} (hx : x < c ^ 6) : bu_lo (fun k x => ac_a c (a k) x) x n = f x := by
  have hA := ac_AT G hc
  have hn : f x < c ^ 6 := Nat.lt_of_le_of_lt (H.1 x hx) hx
  obtain ⟨k, hk, ek⟩ := gr_reach G (B := ac_a c) (S := fun _ => true) (ac_b2 hc _) (ac_b3 hc _) hn rfl (H.2.2 x hx)
  apply Nat.le_antisymm
  · have h1 : bu_lo (fun k x => ac_a c (a k) x) (ac_a c (a k) (f x)) n = bu_lo (fun k x => ac_a c (a k) x) (f x) n := bu_lo_inv hA hk hn rfl
    rw [← ek] at h1
    rw [h1]
    exact bu_lo_self _ _ _
  · obtain ⟨l, hl, el⟩ := bu_lo_in hA hx rfl
    rw [el]
    show f x ≤ ac_a c (a l) x
    rw [← nk_con G hc H hx hl]
    exact H.1 _ (ac_lt hc (G.2.1 l hl))
theorem nk_burn (G : gr_G m e n a) (hc : 0 < c) (H : nk_N m e c f) {S : Nat → Bool} (hS : ∀ k, k < n → ∀ x, x < c ^ 6 → S (ac_a c (a k) x) = S x) : cs_s (fun k => cs_c (fun x => S x && ac_a c (a k) x == x) (c ^ 6)) n = n * cs_c (fun x => S x && f x == x) (c ^ 6) := by
  have h := bu_burn (ac_A G hc hS) (fun x => x) (fun x hx hT => by
    obtain ⟨k, hk, ek⟩ := (ac_A G hc hS).2.1
    exact ⟨k, hk, (ek x hx hT).symm⟩)
  rw [h]
  exact congrArg _ (cs_ccongr fun x hx => by rw [nk_lo G hc H hx])
noncomputable def gk_k (c : Nat) (a : Nat → Nat) (n : Nat) : Nat := cs_c (fun x => true && bu_lo (fun k x => ac_a c (a k) x) x n == x) (c ^ 6)
theorem gk_burn (G : gr_G m e n a) (hc : 0 < c) (h3 : c ≤ 3) : cs_s (fun k => c ^ sh_a (sh_e (a k))) n = n * gk_k c a n := by
  have h := bu_burn (ac_AT (c := c) G hc) (fun x => x) (fun x hx hT => by
    obtain ⟨k, hk, ek⟩ := (ac_AT (c := c) G hc).2.1
    exact ⟨k, hk, (ek x hx hT).symm⟩)
  rw [← show _ = n * gk_k c a n from h]
  exact cs_congr fun k hk => (kf_1 hc h3 (G.2.1 k hk)).symm
theorem gk_le (c : Nat) (a : Nat → Nat) (n : Nat) : gk_k c a n ≤ c ^ 6 := cs_cle _ _
theorem gk_eq (G : gr_G m e n a) (hc : 0 < c) (H : nk_N m e c f) : gk_k c a n = cs_c (fun x => f x == x) (c ^ 6) := cs_ccongr fun x hx => by rw [nk_lo G hc H hx, Bool.true_and]
theorem an_with (G : gr_G m e n a) (hc : 0 < c) (h3 : c ≤ 3) (H : nk_N m e c f) {p q : Nat} (h : p + q ≤ 6) : cs_s (fun k => dp_w c (sh_e (a k)) (7 * p + q)) n = n * cs_c (fun x => (ac_n c x 0 == p && ac_n c x 1 == q) && f x == x) (c ^ 6) := by
  rw [← nk_burn G hc H (S := fun x => ac_n c x 0 == p && ac_n c x 1 == q) (fun k hk x hx => by
    show (ac_n c (ac_a c (a k) x) 0 == p && ac_n c (ac_a c (a k) x) 1 == q) = _
    rw [ac_ninv hc (G.2.1 k hk), ac_ninv hc (G.2.1 k hk)])]
  exact cs_congr fun k hk => (kf_2 hc h3 (G.2.1 k hk) h).symm
theorem an_n2 (c x : Nat) : ac_n c x 0 + ac_n c x 1 ≤ 6 := by
  have h := cs_add (fun i => (ac_d c x i == 0).toNat) (fun i => (ac_d c x i == 1).toNat) 6
  show cs_s (fun i => (ac_d c x i == 0).toNat) 6 + cs_s (fun i => (ac_d c x i == 1).toNat) 6 ≤ 6
  rw [← h]
  have h2 := cs_le (f := fun i => (ac_d c x i == 0).toNat + (ac_d c x i == 1).toNat) (g := fun _ => 1) (n := 6) (fun i _ => by
    by_cases z : ac_d c x i = 0
    · rw [z]; decide
    · rw [cs_beqf z]; exact (Nat.zero_add _).symm ▸ cs_bt _)
  rw [cs_const] at h2
  exact h2
theorem ac_alinv {k : Nat} (G : gr_G m e n a) (hc : 0 < c) (hk : k < n) (x : Nat) : ac_al c (ac_a c (a k) x) = ac_al c x := by
  have h : ∀ j, (Nat.rec true (fun d r => r && Nat.blt 0 (ac_n c (ac_a c (a k) x) d)) j : Bool) = Nat.rec true (fun d r => r && Nat.blt 0 (ac_n c x d)) j := by
    intro j
    induction j with
    | zero => rfl
    | succ j ih =>
      show ((Nat.rec true (fun d r => r && Nat.blt 0 (ac_n c (ac_a c (a k) x) d)) j : Bool) && Nat.blt 0 (ac_n c (ac_a c (a k) x) j)) = ((Nat.rec true (fun d r => r && Nat.blt 0 (ac_n c x d)) j : Bool) && Nat.blt 0 (ac_n c x j))
      rw [ih, ac_ninv hc (G.2.1 k hk)]
  exact h c
theorem gk_one (G : gr_G m e n a) : gk_k 1 a n = 1 := by
  have h := gk_burn (c := 1) G (by decide) (by decide)
  rw [cs_congr (g := fun _ => 1) (fun k _ => Nat.one_pow _), cs_const, Nat.mul_one] at h
  have hp := gr_pos G
  have h2 : n * gk_k 1 a n = n * 1 := by omega
  exact Nat.eq_of_mul_eq_mul_left hp h2
theorem an_all (G : gr_G m e n a) (hc : 0 < c) (h3 : c ≤ 3) (H : nk_N m e c f) : (c = 1 → cs_c (fun x => ac_al c x && f x == x) (c ^ 6) = 1) ∧ (c = 2 → cs_c (fun x => ac_al c x && f x == x) (c ^ 6) + 2 = gk_k 2 a n) ∧ (c = 3 → cs_c (fun x => ac_al c x && f x == x) (c ^ 6) + 3 * gk_k 2 a n = gk_k 3 a n + 3) := by
  have hp := gr_pos G
  have h := nk_burn G hc H (S := ac_al c) (fun k hk x hx => ac_alinv G hc hk x)
  generalize cs_c (fun x => ac_al c x && f x == x) (c ^ 6) = K at *
  refine ⟨fun z => ?_, fun z => ?_, fun z => ?_⟩ <;> subst z
  · rw [cs_congr (fun k hk => (kf_B (G.2.1 k hk)).1), cs_const] at h
    exact (Nat.eq_of_mul_eq_mul_left hp h).symm
  · have h2 := gk_burn (c := 2) G (by decide) (by decide)
    have h4 : cs_s (fun k => cs_c (fun x => ac_al 2 x && ac_a 2 (a k) x == x) (2 ^ 6) + 2) n = cs_s (fun k => 2 ^ sh_a (sh_e (a k))) n := cs_congr fun k hk => (kf_B (G.2.1 k hk)).2.1
    rw [cs_add, cs_const, h, h2, ← Nat.mul_add] at h4
    exact Nat.eq_of_mul_eq_mul_left hp h4
  · have h2 := gk_burn (c := 2) G (by decide) (by decide)
    have h5 := gk_burn (c := 3) G (by decide) (by decide)
    have h4 : cs_s (fun k => cs_c (fun x => ac_al 3 x && ac_a 3 (a k) x == x) (3 ^ 6) + 3 * 2 ^ sh_a (sh_e (a k))) n = cs_s (fun k => 3 ^ sh_a (sh_e (a k)) + 3) n := cs_congr fun k hk => (kf_B (G.2.1 k hk)).2.2
    rw [cs_add, cs_add, cs_const, cs_mul, h, h2, h5, Nat.mul_left_comm, ← Nat.mul_add, ← Nat.mul_add] at h4
    exact Nat.eq_of_mul_eq_mul_left hp h4
noncomputable def ex_S (c : Nat) (f : Nat → Nat) (x : Nat) : Bool := f (ac_x c x) == f x
theorem an_ex (G : gr_G m e n a) (hc : 1 < c) (h3 : c ≤ 3) (H : nk_N m e c f) : cs_s (fun k => se_p c (sh_e (a k)) 6) n = n * cs_c (fun x => f x == x && f (ac_x c x) == x) (c ^ 6) := by
  have h0 : 0 < c := by omega
  have hS : ∀ k, k < n → ∀ x, x < c ^ 6 → ex_S c f (ac_a c (a k) x) = ex_S c f x := fun k hk x hx => by
    show (f (ac_x c (ac_a c (a k) x)) == f (ac_a c (a k) x)) = (f (ac_x c x) == f x)
    rw [← ac_xa h0 (G.2.1 k hk), nk_con G h0 H (ac_xd h0).1 hk, nk_con G h0 H hx hk]
  have h := bu_burn (ac_A G h0 hS) (ac_x c) (fun x hx hT => by
    have hT : f (ac_x c x) = f x := beq_iff_eq.mp hT
    have hb := bu_same (ac_AT (c := c) G h0) hx rfl (ac_xd (x := x) h0).1 rfl (by rw [nk_lo G h0 H hx, nk_lo G h0 H (ac_xd h0).1]; exact hT)
    exact hb)
  have e1 : cs_s (fun k => se_p c (sh_e (a k)) 6) n = cs_s (fun k => cs_c (fun x => ex_S c f x && ac_a c (a k) x == ac_x c x) (c ^ 6)) n := cs_congr fun k hk => by
    rw [← kf_X hc h3 (G.2.1 k hk)]
    exact cs_ccongr fun x hx => by
      show (ac_a c (a k) x == ac_x c x) = (f (ac_x c x) == f x && ac_a c (a k) x == ac_x c x)
      by_cases z : ac_a c (a k) x = ac_x c x
      · rw [cs_beqt z, cs_beqt (by rw [← z, nk_con G h0 H hx hk])]; rfl
      · rw [cs_beqf z, Bool.and_false]
  rw [e1, h]
  refine congrArg _ (cs_ccongr fun x hx => ?_)
  show (f (ac_x c x) == f x && bu_lo (fun k x => ac_a c (a k) x) x n == x) = (f x == x && f (ac_x c x) == x)
  rw [nk_lo G h0 H hx]
  by_cases z : f x = x
  · rw [z, cs_beqt rfl, Bool.and_true, Bool.true_and]
  · rw [cs_beqf z, Bool.and_false, Bool.false_and]
theorem an_size (G : gr_G m e n a) (hc : 0 < c) (H : nk_N m e c f) {x : Nat} (hx : x < c ^ 6) : n = cs_c (fun y => f y == f x) (c ^ 6) * cs_c (fun k => ac_a c (a k) x == x) n := by
  have h := bu_orb (ac_AT (c := c) G hc) hx rfl
  have e1 : cs_c (fun y => f y == f x) (c ^ 6) = cs_c (fun y => true && bu_lo (fun k x => ac_a c (a k) x) y n == bu_lo (fun k x => ac_a c (a k) x) x n) (c ^ 6) := cs_ccongr fun y hy => by
    rw [nk_lo G hc H hy, nk_lo G hc H hx, Bool.true_and]
  rw [e1]
  exact h
/-- the least place of an orbit -/
noncomputable def gk_r (a : Nat → Nat) (n i : Nat) : Nat := bu_lo (fun k x => pm_im (a k) x) i n
noncomputable def gk_o (a : Nat → Nat) (n : Nat) : Nat := cs_c (fun i => gk_r a n i == i) 6
theorem an_orb (G : gr_G m e n a) : cs_s (fun k => sh_c (sh_e (a k)) 1) n = n * gk_o a n := by
  have h := bu_burn (ac_pA G) (fun x => x) (fun x hx hT => by
    obtain ⟨k, hk, ek⟩ := (ac_pA G).2.1
    exact ⟨k, hk, (ek x hx hT).symm⟩)
  have e1 : cs_s (fun k => sh_c (sh_e (a k)) 1) n = cs_s (fun k => cs_c (fun x => true && pm_im (a k) x == x) 6) n := cs_congr fun k hk => by
    rw [← (kf_M (G.2.1 k hk)).2.2.2.1]
    exact cs_ccongr fun x _ => (Bool.true_and _).symm
  rw [e1, h]
  exact congrArg _ (cs_ccongr fun x _ => Bool.true_and _)
noncomputable def gk_p (a : Nat → Nat) (n : Nat) : Nat := cs_c (fun x => ac_S x && bu_lo (fun k x => ac_q (a k) x) x n == x) 36
theorem an_pair (G : gr_G m e n a) : cs_s (fun k => sh_c (sh_e (a k)) 1 * (sh_c (sh_e (a k)) 1 - 1) / 2 + sh_c (sh_e (a k)) 2) n = n * gk_p a n := by
  have h := bu_burn (ac_qA G) (fun x => x) (fun x hx hT => by
    obtain ⟨k, hk, ek⟩ := (ac_qA G).2.1
    exact ⟨k, hk, (ek x hx hT).symm⟩)
  rw [← show _ = n * gk_p a n from h]
  exact cs_congr fun k hk => (kf_M (G.2.1 k hk)).2.2.2.2.symm
end
end
section
/-! colourings that are the same along given places; sets that grow till they are closed -/
theorem st_low {c y d n i : Nat} (hc : 0 < c) (h : i < n) : ac_d c (y + d * c ^ n) i = ac_d c y i := by
  obtain ⟨z, hz⟩ : ∃ z, n = i + (z + 1) := ⟨n - i - 1, by omega⟩
  have e1 : d * c ^ n = (d * c ^ z * c) * c ^ i := by
    rw [hz, Nat.pow_add, Nat.pow_succ, Nat.mul_assoc, Nat.mul_assoc, Nat.mul_comm (c ^ i)]
    simp only [Nat.mul_assoc]
  unfold ac_d
  rw [e1, Nat.add_mul_div_right _ _ (Nat.pow_pos hc), Nat.add_mul_mod_self_right]
theorem st_top {c y d n : Nat} (hc : 0 < c) (hy : y < c ^ n) (hd : d < c) : ac_d c (y + d * c ^ n) n = d := by
  unfold ac_d
  rw [Nat.add_mul_div_right _ _ (Nat.pow_pos hc), Nat.div_eq_of_lt hy, Nat.zero_add, Nat.mod_eq_of_lt hd]
noncomputable def st_q (c : Nat) (r : Nat → Nat) (n x : Nat) : Bool := Nat.rec true (fun i b => b && ac_d c x i == ac_d c x (r i)) n
theorem st_q1 (c : Nat) (r : Nat → Nat) (n x : Nat) : st_q c r (n + 1) x = (st_q c r n x && ac_d c x n == ac_d c x (r n)) := rfl
theorem st_qi (c : Nat) (r : Nat → Nat) (x : Nat) : ∀ n, st_q c r n x = true ↔ ∀ i, i < n → ac_d c x i = ac_d c x (r i) := by
  intro n
  induction n with
  | zero => exact ⟨fun _ i hi => by omega, fun _ => rfl⟩
  | succ n ih =>
    rw [st_q1, Bool.and_eq_true_iff, ih, beq_iff_eq]
    constructor
    · rintro ⟨h1, h2⟩ i hi
      by_cases e : i = n
      · subst e; exact h2
      · exact h1 i (by omega)
    · intro h
      exact ⟨fun i hi => h i (by omega), h n (by omega)⟩
theorem st_qlow {c y d n : Nat} (hc : 0 < c) {r : Nat → Nat} (hr : ∀ i, r i ≤ i) : st_q c r n (y + d * c ^ n) = st_q c r n y := by
  rw [Bool.eq_iff_iff, st_qi, st_qi]
  constructor
  · intro h i hi
    have h1 := h i hi
    have h2 := hr i
    rw [st_low hc hi, st_low hc (show r i < n by omega)] at h1
    exact h1
  · intro h i hi
    have h2 := hr i
    rw [st_low hc hi, st_low hc (show r i < n by omega)]
    exact h i hi
theorem st_cnt {c : Nat} (hc : 0 < c) {r : Nat → Nat} (hr : ∀ i, r i ≤ i) : ∀ n, cs_c (st_q c r n) (c ^ n) = c ^ cs_c (fun i => r i == i) n := by
  intro n
  induction n with
  | zero => rfl
  | succ n ih =>
    rw [cs_c1, Nat.pow_succ, Nat.mul_comm (c ^ n) c]
    unfold cs_c at ih ⊢
    rw [cs_blk]
    by_cases e : r n = n
    · have h : cs_s (fun d => cs_s (fun y => (st_q c r (n + 1) (y + d * c ^ n)).toNat) (c ^ n)) c = cs_s (fun _ => cs_s (fun y => (st_q c r n y).toNat) (c ^ n)) c := cs_congr fun d hd => cs_congr fun y hy => by
        rw [st_q1, e, cs_beqt rfl, Bool.and_true, st_qlow hc hr]
      rw [h, cs_const, cs_beqt e, ih]
      show _ = c ^ (_ + 1)
      rw [Nat.pow_succ, Nat.mul_comm]
    · have hl : r n < n := by have := hr n; omega
      have h : cs_s (fun d => cs_s (fun y => (st_q c r (n + 1) (y + d * c ^ n)).toNat) (c ^ n)) c = cs_s (fun d => cs_s (fun y => (st_q c r n y).toNat * (ac_d c y (r n) == d).toNat) (c ^ n)) c := cs_congr fun d hd => cs_congr fun y hy => by
        rw [st_q1, st_qlow hc hr, st_low hc hl, st_top hc hy hd]
        by_cases z : ac_d c y (r n) = d
        · rw [cs_beqt z, cs_beqt z.symm, Bool.and_true]; exact (Nat.mul_one _).symm
        · rw [cs_beqf z, cs_beqf (fun q => z q.symm), Bool.and_false]; exact (Nat.mul_zero _).symm
      rw [h, cs_swap (fun y d => (st_q c r n y).toNat * (ac_d c y (r n) == d).toNat), cs_beqf e]
      show _ = c ^ (_ + 0)
      rw [Nat.add_zero, ← ih]
      apply cs_congr
      intro y hy
      rw [cs_mul]
      show (st_q c r n y).toNat * cs_c (fun d => ac_d c y (r n) == d) c = _
      rw [cs_one (ac_dlt hc) (fun d _ => rfl), Nat.mul_one]
section
variable {m n c : Nat} {e a f : Nat → Nat}
theorem an_fixall (G : gr_G m e n a) (hc : 0 < c) {x : Nat} (hx : x < c ^ 6) : (∀ k, k < n → ac_a c (a k) x = x) ↔ st_q c (gk_r a n) 6 x = true := by
  rw [st_qi]
  constructor
  · intro h i hi
    obtain ⟨k, hk, ek⟩ := bu_lo_in (ac_pA G) hi rfl
    have h1 := (ac_eq hc (G.2.1 k hk) hx).mp (h k hk) i hi
    show ac_d c x i = ac_d c x (bu_lo (fun k x => pm_im (a k) x) i n)
    rw [ek]
    exact h1.symm
  · intro h k hk
    rw [ac_eq hc (G.2.1 k hk) hx]
    intro i hi
    have h1 := h _ ((G.2.1 k hk).2.1 i hi)
    have h2 := h i hi
    have h3 : gk_r a n (pm_im (a k) i) = gk_r a n i := bu_lo_inv (ac_pA G) hk hi rfl
    rw [h1, h2, h3]
theorem an_still (G : gr_G m e n a) (hc : 0 < c) (H : nk_N m e c f) : cs_c (fun x => f x == x && cs_c (fun y => f y == x) (c ^ 6) == 1) (c ^ 6) = c ^ gk_o a n := by
  have hr : ∀ i, gk_r a n i ≤ i := fun i => bu_lo_self _ _ _
  rw [gk_o, ← st_cnt hc (r := gk_r a n) hr 6]
  apply cs_ccongr
  intro x hx
  have hp := gr_pos G
  have h := an_size G hc H hx
  rw [Bool.eq_iff_iff, ← an_fixall G hc hx, Bool.and_eq_true_iff, beq_iff_eq, beq_iff_eq]
  constructor
  · rintro ⟨h1, h2⟩
    rw [h1, h2, Nat.one_mul] at h
    intro k hk
    exact beq_iff_eq.mp (cs_cnt (p := fun k => ac_a c (a k) x == x) h.symm k hk)
  · intro h1
    have h2 : cs_c (fun k => ac_a c (a k) x == x) n = n := by
      have := cs_call n
      rw [← this]
      rw [this]
      exact (cs_ccongr fun k hk => cs_beqt (h1 k hk)).trans this
    have h3 : f x = x := by
      obtain ⟨l, hl, el⟩ := bu_lo_in (ac_AT (c := c) G hc) hx rfl
      rw [nk_lo G hc H hx] at el
      rw [el]; exact h1 l hl
    refine ⟨h3, ?_⟩
    rw [h2, h3] at h
    have h4 : 1 * n = cs_c (fun y => f y == x) (c ^ 6) * n := by omega
    exact (Nat.eq_of_mul_eq_mul_right hp h4).symm
end
/-! closing a set under m maps, round by round -/
def cl_C (N m : Nat) (B : Nat → Nat → Nat) (T : Nat → Bool) : Prop := ∀ x, x < N → T x = true → ∀ i, i < m → T (B i x) = true
def cl_R (N m : Nat) (B : Nat → Nat → Nat) (T T' : Nat → Bool) : Prop := (∀ x, x < N → T x = true → T' x = true) ∧ (∀ x, x < N → T x = true → ∀ i, i < m → T' (B i x) = true) ∧ ∀ P : Nat → Prop, (∀ x, x < N → T x = true → P x) → (∀ y, P y → ∀ i, i < m → P (B i y)) → ∀ x, x < N → T' x = true → P x
theorem cl_step {N m r : Nat} {B : Nat → Nat → Nat} {T T' : Nat → Bool} (hB : ∀ x, x < N → T x = true → ∀ i, i < m → B i x < N) (R : cl_R N m B T T') (h : cl_C N m B T ∨ r + 1 ≤ cs_c T N) : cl_C N m B T' ∨ r + 2 ≤ cs_c T' N := by
  obtain ⟨r1, r2, r3⟩ := R
  by_cases hC : cl_C N m B T'
  · exact Or.inl hC
  · refine Or.inr ?_
    have hT : ¬ cl_C N m B T := fun hT => by
      have h2 := r3 (fun x => x < N ∧ T x = true) (fun x hx ht => ⟨hx, ht⟩) (fun y hy i hi => ⟨hB y hy.1 hy.2 i hi, hT y hy.1 hy.2 i hi⟩)
      apply hC
      intro x hx ht i hi
      exact r2 x hx (h2 x hx ht).2 i hi
    have h1 := h.resolve_left hT
    obtain ⟨x, hx, x1, x2⟩ : ∃ x, x < N ∧ T' x = true ∧ T x ≠ true := by
      apply Classical.byContradiction
      intro hno
      apply hT
      intro x hx ht i hi
      apply Classical.byContradiction
      intro hz
      exact hno ⟨B i x, hB x hx ht i hi, r2 x hx ht i hi, hz⟩
    have h3 := cs_rm hx x1
    have h4 : cs_c T N ≤ cs_c (fun i => T' i && !(i == x)) N := cs_cmono fun k hk hp => by
      have hne : k ≠ x := fun z => x2 (by rw [← z]; exact hp)
      show (T' k && !(k == x)) = true
      rw [r1 k hk hp, cs_beqf hne]; rfl
    omega
theorem cl_min {m n N : Nat} {e a : Nat → Nat} (G : gr_G m e n a) {S : Nat → Bool} {B : Nat → Nat → Nat} (b1 : ∀ g, pm_P g → ∀ x, x < N → S x = true → B g x < N ∧ S (B g x) = true) (b2 : ∀ x, x < N → S x = true → B 181896 x = x) (b3 : ∀ g h, pm_P g → pm_P h → ∀ x, x < N → S x = true → B (pm_cmp g h) x = B h (B g x)) {T : Nat → Bool} {x : Nat} (hx : x < N) (hS : S x = true) (t0 : T x = true) (t1 : cl_C N m (fun i y => B (e i) y) T) (t2 : ∀ y, y < N → T y = true → ∀ P : Nat → Prop, P x → (∀ y, P y → ∀ i, i < m → P (B (e i) y)) → P y) : (∀ j, j < x → T j = false) ↔ bu_lo (fun k x => B (a k) x) x n = x := by
  have hA := gr_act G (B := B) (fun k hk => b1 _ (G.2.1 k hk)) b2 b3
  constructor
  · intro h
    obtain ⟨k, hk, ek⟩ := bu_lo_in hA hx hS
    have h1 := bu_lo_self (fun k x => B (a k) x) x n
    have h2 := gr_orb G b1 b2 b3 (T := fun y => T y = true) hx hS t0 (fun y hy _ ht i hi => t1 y hy ht i hi) k hk
    apply Classical.byContradiction
    intro hne
    have h3 := h _ (show bu_lo (fun k x => B (a k) x) x n < x by omega)
    rw [ek] at h3
    exact absurd (h2.symm.trans h3) (by decide)
  · intro h j hj
    cases hT : T j with
    | false => rfl
    | true =>
      obtain ⟨k, hk, ek⟩ := gr_reach G b2 b3 hx hS (t2 j (by omega) hT)
      have h1 : bu_lo (fun k x => B (a k) x) x n ≤ B (a k) x := bu_lo_le (fun k x => B (a k) x) x n k hk
      omega
end
section
/-! numbers of the walks -/
theorem xn_or (a b : Nat) : nI a ||| nI b = nI (a ||| b) := by
  apply Int32.toBitVec_inj.1
  show BitVec.ofNat 32 a ||| BitVec.ofNat 32 b = BitVec.ofNat 32 (a ||| b)
  apply BitVec.eq_of_getLsbD_eq
  intro i hi
  simp [hi]
theorem xn_3 (i : Nat) : (3 : Int32) * nI i = nI (3 * i) := pk_mul 3 i
theorem xn_im {e i : Nat} (he : e < 2 ^ 31) (hi : i < 8) : (nI e >>> (((3 : Int32) * nI i) &&& 31)) &&& 7 = nI (pm_im e i) := by
  have h : e / 2 ^ (3 * i) ≤ e := Nat.div_le_self _ _
  rw [xn_3, pk_shrN he _ (3 * i) (s_l (3 * i) (by omega)), pk_andN (by omega) 3 (by decide), Nat.pow_mul]
  rfl
theorem xn_b3 : ∀ i, i < 6 → 2 ^ (3 * i) ≤ 32768 := by decide
theorem xn_orsh {s d i : Nat} (hs : s < 8 ^ i) (hd : d < 8) (hi : i < 6) : nI s ||| (nI d <<< (((3 : Int32) * nI i) &&& 31)) = nI (s + d * 8 ^ i) := by
  have h := Nat.mul_le_mul (show d ≤ 8 by omega) (xn_b3 i hi)
  have e : 8 ^ i = 2 ^ (3 * i) := (Nat.pow_mul 2 3 i).symm
  rw [xn_3, pk_shlN _ (3 * i) (s_l (3 * i) (by omega)) (by omega), xn_or, e]
  rw [e] at hs
  have h2 := Nat.two_pow_add_eq_or_of_lt hs d
  rw [Nat.or_comm, Nat.mul_comm d, ← h2, Nat.add_comm]
theorem xn_sl {w : Nat} (hw : w < 32) : (1 : Int32) <<< (nI w &&& 31) = nI (2 ^ w) := by
  have h : 1 * 2 ^ w < 2 ^ 32 := by rw [Nat.one_mul]; exact Nat.pow_lt_pow_right (by decide) hw
  have e := pk_shlN (n := 1) (nI w &&& 31) w (s_l w hw) h
  rw [Nat.one_mul] at e
  exact e
theorem xn_bit {s w : Nat} (hs : s < 2 ^ 31) (hw : w < 32) : (nI s >>> (nI w &&& 31)) &&& 1 = nI (s / 2 ^ w % 2) := by
  have h : s / 2 ^ w ≤ s := Nat.div_le_self _ _
  rw [pk_shrN hs _ w (s_l w hw), pk_andN (by omega) 1 (by decide)]
theorem xn_6r {a : Nat} (h : a < 2 ^ 31) : nI a - nI a / 6 * 6 = nI (a % 6) := pk_rem (d := 6) h (by decide) (by decide)
theorem xn_6d {a : Nat} (h : a < 2 ^ 31) : nI a / 6 = nI (a / 6) := pk_div (d := 6) h (by decide) (by decide)
noncomputable def in_s (g i : Nat) : Nat := Nat.rec 0 (fun j r => r ||| 2 ^ ac_d 6 g j) i
theorem in_s1 (g i : Nat) : in_s g (i + 1) = in_s g i ||| 2 ^ ac_d 6 g i := rfl
theorem xn_p6 {g i : Nat} : 2 ^ ac_d 6 g i < 2 ^ 6 := Nat.pow_lt_pow_right (by decide) (ac_dlt (by decide))
theorem in_lt (g : Nat) : ∀ i, in_s g i < 2 ^ 6 := by
  intro i
  induction i with
  | zero => show 0 < 2 ^ 6; decide
  | succ i ih => rw [in_s1]; exact Nat.or_lt_two_pow ih xn_p6
theorem in_dd (g i : Nat) : g / 6 ^ i / 6 = g / 6 ^ (i + 1) := by rw [Nat.div_div_eq_div_mul, Nat.pow_succ]
theorem oc_lt (F : Nat → Nat) (h : ∀ j, F j < 8) : ∀ i, cs_s (fun j => F j * 8 ^ j) i < 8 ^ i := fun i => (ac_num (c := 8) (by decide) F i (fun j _ => h j)).1
section
variable {f_count f_c f_listed f_size f_shapes : Int32} {a_generator a_group a_table a_shape a_shapeCount a_ways : Nat → Int32}
theorem xw_image {post : Int32 → Prop} {u : SX} {e i : Nat} (he : e < 2 ^ 31) (hi : i < 8) (h : post (nI (pm_im e i))) : wpX_image post u (nI e) (nI i) := by
  obtain ⟨f_count, f_c, f_listed, f_size, f_shapes, a_generator, a_group, a_table, a_shape, a_shapeCount, a_ways⟩ := u
  show post ((nI e >>> (((3 : Int32) * nI i) &&& 31)) &&& 7)
  rw [xn_im he hi]
  exact h
theorem xw_inside {post : Int32 → Prop} {u : SX} {g : Nat} (hg : g < 2 ^ 31) (h1 : in_s g 6 = 63 → g < 46656 → post (nI (pm_oc (ac_d 6 g)))) (h2 : ¬ (in_s g 6 = 63 ∧ g < 46656) → post (-1)) : wpX_inside post u (nI g) := by
  obtain ⟨f_count, f_c, f_listed, f_size, f_shapes, a_generator, a_group, a_table, a_shape, a_shapeCount, a_ways⟩ := u
  have key : ∀ d i, i + d = 6 → wX_inside_10 post f_count f_c f_listed f_size f_shapes a_generator a_group a_table a_shape a_shapeCount a_ways (d + 1) (nI (cs_s (fun j => ac_d 6 g j * 8 ^ j) i)) (nI (in_s g i)) (nI (g / 6 ^ i)) (nI i) := by
    intro d
    induction d with
    | zero =>
      intro i hi
      have hi : i = 6 := by omega
      subst hi
      have b1 := in_lt g 6
      have b2 : g / 6 ^ 6 ≤ g := Nat.div_le_self _ _
      rw [← pm_ocs]
      exact pk_le 6 6 (fun _ => pk_eq (in_s g 6) 63 (fun a => pk_eq (g / 6 ^ 6) 0 (fun b => h1 a (by omega)) (fun b => h2 (fun z => b (by omega)))) (fun a => h2 (fun z => a z.1))) (fun h => absurd h (by omega))
    | succ d ih =>
      intro i hi
      have b2 : g / 6 ^ i ≤ g := Nat.div_le_self _ _
      have d6 : ac_d 6 g i < 6 := ac_dlt (by decide)
      have e1 : nI (g / 6 ^ i) - nI (g / 6 ^ i) / 6 * 6 = nI (ac_d 6 g i) := xn_6r (by omega)
      have e2 : nI (g / 6 ^ i) / 6 = nI (g / 6 ^ (i + 1)) := by rw [xn_6d (by omega), in_dd]
      have e3 : nI (in_s g i) ||| ((1 : Int32) <<< (nI (ac_d 6 g i) &&& 31)) = nI (in_s g (i + 1)) := by rw [xn_sl (by omega), xn_or, in_s1]
      have e4 := xn_orsh (oc_lt (ac_d 6 g) (fun j => Nat.lt_trans (ac_dlt (by decide)) (by decide)) i) (show ac_d 6 g i < 8 by omega) (show i < 6 by omega)
      exact pk_le 6 i (fun h => absurd h (by omega)) (fun _ => ⟨by decide, nm_r e1 ⟨by decide, nm_r e2 (nm_r e3 (nm_r e4 (nm_r (nI_1 i) (ih (i + 1) (by omega)))))⟩⟩)
  have k := key 6 0 rfl
  rw [Nat.pow_zero, Nat.div_one] at k
  exact ⟨7, k⟩
/-- to the base b from above -/
noncomputable def hz_n (b : Nat) (f : Nat → Nat) (n : Nat) : Nat → Nat := Nat.rec (fun s => s) (fun i r s => r (s * b + f i)) n
theorem hz_0 (b : Nat) (f : Nat → Nat) (s : Nat) : hz_n b f 0 s = s := rfl
theorem hz_1 (b : Nat) (f : Nat → Nat) (n s : Nat) : hz_n b f (n + 1) s = hz_n b f n (s * b + f n) := rfl
theorem hz_s (b : Nat) (f : Nat → Nat) : ∀ n s, hz_n b f n s = s * b ^ n + cs_s (fun j => f j * b ^ j) n := by
  intro n
  induction n with
  | zero => intro s; rw [hz_0, cs_s0, Nat.pow_zero]; omega
  | succ n ih =>
    intro s
    rw [hz_1, ih, cs_s1, Nat.add_mul, Nat.mul_assoc, Nat.pow_succ, Nat.mul_comm b]
    omega
theorem hz_6 (b : Nat) (f : Nat → Nat) : hz_n b f 6 0 = cs_s (fun j => f j * b ^ j) 6 := by rw [hz_s, Nat.zero_mul, Nat.zero_add]
theorem pm_sxs (f : Nat → Nat) : pm_sx f = cs_s (fun j => f j * 6 ^ j) 6 := by
  show _ = 0 + f 0 * 6 ^ 0 + f 1 * 6 ^ 1 + f 2 * 6 ^ 2 + f 3 * 6 ^ 3 + f 4 * 6 ^ 4 + f 5 * 6 ^ 5
  simp only [pm_sx, Nat.reducePow]
  omega
theorem xn_neg {A B : Prop} (h : A) : ((nI 0 + (-1) : Int32) < 0 → A) ∧ (¬ (nI 0 + (-1) : Int32) < 0 → B) := br_t (by decide) h
theorem xw_outside {post : Int32 → Prop} {u : SX} {e : Nat} (he : e < 2 ^ 31) (h : post (nI (pm_s e))) : wpX_outside post u (nI e) := by
  obtain ⟨f_count, f_c, f_listed, f_size, f_shapes, a_generator, a_group, a_table, a_shape, a_shapeCount, a_ways⟩ := u
  have key : ∀ i, i ≤ 6 → ∀ s, post (nI (hz_n 6 (pm_im e) i s)) → wX_outside_4 post (nI e) f_count f_c f_listed f_size f_shapes a_generator a_group a_table a_shape a_shapeCount a_ways (i + 1) (nI s) (nI i + (-1)) := by
    intro i
    induction i with
    | zero => intro _ s hp; exact xn_neg hp
    | succ i ih =>
      intro hi s hp
      rw [pk_m1]
      have e1 : nI s * 6 + nI (pm_im e i) = nI (s * 6 + pm_im e i) := by
        rw [← nI_add, ← pk_mul]; rfl
      exact br_f (nI_pos (by omega)) (xw_image he (by omega) (nm_r e1 (nm_r rfl (ih (by omega) _ hp))))
  have k := key 6 (by omega) 0 (by rw [hz_6, ← pm_sxs]; exact h)
  exact ⟨7, k⟩
theorem xw_both {post : Int32 → Prop} {u : SX} {e f : Nat} (he : e < 2 ^ 31) (hf : f < 2 ^ 31) (h : post (nI (pm_cmp e f))) : wpX_both post u (nI e) (nI f) := by
  obtain ⟨f_count, f_c, f_listed, f_size, f_shapes, a_generator, a_group, a_table, a_shape, a_shapeCount, a_ways⟩ := u
  have key : ∀ d i, i + d = 6 → wX_both_5 post (nI e) (nI f) f_count f_c f_listed f_size f_shapes a_generator a_group a_table a_shape a_shapeCount a_ways (d + 1) (nI (cs_s (fun j => pm_im f (pm_im e j) * 8 ^ j) i)) (nI i) := by
    intro d
    induction d with
    | zero =>
      intro i hi
      have hi : i = 6 := by omega
      subst hi
      rw [← pm_ocs (fun j => pm_im f (pm_im e j))]
      exact pk_le 6 6 (fun _ => h) (fun h => absurd h (by omega))
    | succ d ih =>
      intro i hi
      have e4 := xn_orsh (oc_lt (fun j => pm_im f (pm_im e j)) (fun j => pm_im8 _ _) i) (pm_im8 f (pm_im e i)) (show i < 6 by omega)
      exact pk_le 6 i (fun h => absurd h (by omega)) (fun _ => xw_image he (by omega) (xw_image hf (pm_im8 _ _) (nm_r e4 (nm_r (nI_1 i) (ih (i + 1) (by omega))))))
  exact ⟨7, key 6 0 rfl⟩
end
end
section
/-! the component's own table, shapes, powers -/
theorem xn_m1 : (-1 : Int32) < 0 := by decide
theorem xn_ne1 {k : Nat} (hk : k < 2 ^ 31) : nI k ≠ -1 := fun h => nI_pos hk (by rw [h]; decide)
def en_h (x : Int32) : Nat := ((x ^^^ (x >>> ((7 : Int32) &&& 31))) * 37).toBitVec.toNat % 2 ^ 11
def en_x (a : Nat → Nat) (n g : Nat) (k : Nat) : Nat := if k = n then g else a k
theorem en_xn (a : Nat → Nat) (n g : Nat) : en_x a n g n = g := if_pos rfl
theorem en_xo {a : Nat → Nat} {n g k : Nat} (h : k < n) : en_x a n g k = a k := if_neg (by omega)
def en_T (n : Nat) (a : Nat → Nat) (tb : Nat → Int32) : Prop :=
  (∀ s, s < 2048 → tb s = -1 ∨ ∃ k, k < n ∧ tb s = nI k) ∧
  (∀ s s' k, s < 2048 → s' < 2048 → tb s = nI k → tb s' = nI k → k < n → s = s') ∧
  (∀ k, k < n → ∃ d, d < 2048 ∧ tb ((en_h (nI (a k)) + d) % 2048) = nI k ∧ ∀ d', d' < d → ¬ tb ((en_h (nI (a k)) + d') % 2048) < 0)
theorem en_lt (x : Int32) : en_h x < 2048 := Nat.mod_lt _ (by decide)
theorem en_free {n : Nat} {a : Nat → Nat} {tb : Nat → Int32} (hn : n ≤ 720) (T : en_T n a tb) (h : ∀ s, s < 2048 → ¬ tb s < 0) : False := by
  have h1 : ∀ s, s < 2048 → ∃ k, k < n ∧ tb s = nI k := fun s hs => (T.1 s hs).resolve_left (fun z => h s hs (by rw [z]; decide))
  have h2 := cs_pig (n := 2048) (m := n) (fun s => (tb s).toNatClampNeg) (fun s hs => by
    obtain ⟨k, hk, e⟩ := h1 s hs
    show (tb s).toNatClampNeg < n
    rw [e, nI_clamp (by omega)]; exact hk) (fun s s' hs hs' z => by
    obtain ⟨k, hk, e⟩ := h1 s hs
    obtain ⟨k', hk', e'⟩ := h1 s' hs'
    have z : (tb s).toNatClampNeg = (tb s').toNatClampNeg := z
    rw [e, e', nI_clamp (by omega), nI_clamp (by omega)] at z
    subst z
    exact T.2.1 s s' k hs hs' e e' hk)
  omega
theorem en_put {n g i : Nat} {a : Nat → Nat} {tb : Nat → Int32} (hn : n < 720) (T : en_T n a tb) (hi : i < 2048) (h0 : ∀ d', d' < i → ¬ tb ((en_h (nI g) + d') % 2048) < 0) (h1 : tb ((en_h (nI g) + i) % 2048) < 0) : en_T (n + 1) (en_x a n g) (upd tb ((en_h (nI g) + i) % 2048) (nI n)) := by
  generalize hs : (en_h (nI g) + i) % 2048 = s at *
  have hs2 : s < 2048 := by omega
  have hnn : ∀ q, ¬ tb q < 0 → ¬ upd tb s (nI n) q < 0 := fun q hq => by
    by_cases e : q = s
    · subst e; rw [pk_us]; exact nI_pos (by omega)
    · rw [pk_un e]; exact hq
  obtain ⟨t1, t2, t3⟩ := T
  refine ⟨fun q hq => ?_, fun q q' k hq hq' e e' hk => ?_, fun k hk => ?_⟩
  · by_cases e : q = s
    · subst e; exact Or.inr ⟨n, by omega, pk_us⟩
    · rw [pk_un e]
      rcases t1 q hq with h | ⟨k, hk, h⟩
      · exact Or.inl h
      · exact Or.inr ⟨k, by omega, h⟩
  · have aux : ∀ q, q < 2048 → q ≠ s → upd tb s (nI n) q = nI k → k < n := fun q hq hne e => by
      rw [pk_un hne] at e
      rcases t1 q hq with h | ⟨j, hj, h⟩
      · exact absurd (e.symm.trans h) (xn_ne1 (by omega))
      · have := (nI_eq (by omega) (by omega)).mp (e.symm.trans h)
        omega
    by_cases c : q = s
    · by_cases c' : q' = s
      · rw [c, c']
      · have h := aux q' hq' c' e'
        rw [c, pk_us] at e
        have := (nI_eq (by omega) (by omega)).mp e
        omega
    · have h := aux q hq c e
      by_cases c' : q' = s
      · rw [c', pk_us] at e'
        have := (nI_eq (by omega) (by omega)).mp e'
        omega
      · rw [pk_un c] at e
        rw [pk_un c'] at e'
        exact t2 q q' k hq hq' e e' h
  · by_cases c : k = n
    · subst c
      rw [en_xn]
      exact ⟨i, hi, by rw [hs, pk_us], fun d' hd' => hnn _ (h0 d' hd')⟩
    · rw [en_xo (show k < n by omega)]
      obtain ⟨d, hd, e1, e2⟩ := t3 k (by omega)
      refine ⟨d, hd, ?_, fun d' hd' => hnn _ (e2 d' hd')⟩
      rw [pk_un]
      · exact e1
      · intro z
        rw [z] at e1
        rw [e1] at h1
        exact nI_pos (by omega) h1
section
variable {f_count f_c f_listed f_size f_shapes : Int32} {a_generator a_group a_table a_shape a_shapeCount a_ways : Nat → Int32}
theorem xw_enter {post : SX → Prop} {n g : Nat} {a : Nat → Nat} (hn : n ≤ 720) (hg : g < 2 ^ 31) (ha : ∀ k, k < n → a k < 2 ^ 31 ∧ a_group k = nI (a k)) (T : en_T n a a_table) (h1 : (∃ k, k < n ∧ a k = g) → post (f_count, f_c, f_listed, nI n, f_shapes, a_generator, a_group, a_table, a_shape, a_shapeCount, a_ways)) (h2 : (∀ k, k < n → a k ≠ g) → n < 720 ∧ ∀ tb, en_T (n + 1) (en_x a n g) tb → post (f_count, f_c, f_listed, nI (n + 1), f_shapes, a_generator, upd a_group n (nI g), tb, a_shape, a_shapeCount, a_ways)) : wpX_enter post (f_count, f_c, f_listed, nI n, f_shapes, a_generator, a_group, a_table, a_shape, a_shapeCount, a_ways) (nI g) := by
  have e0 : ((nI g ^^^ (nI g >>> ((7 : Int32) &&& 31))) * 37) &&& 2047 = nI (en_h (nI g)) := pk_and _ 11 (by decide)
  have key : ∀ d i, i + d = 2048 → (∀ j, j < i → ¬ a_table ((en_h (nI g) + j) % 2048) < 0 ∧ ∀ k, k < n → a_table ((en_h (nI g) + j) % 2048) = nI k → a k ≠ g) → wX_enter_16 post (nI g) f_count f_c f_listed (nI n) f_shapes a_generator a_group a_table a_shape a_shapeCount a_ways (d + 1) (nI ((en_h (nI g) + i) % 2048)) (nI i) := by
    intro d
    induction d with
    | zero =>
      intro i hi hj
      exfalso
      apply en_free hn T
      intro s hs
      have hl := en_lt (nI g)
      have h := (hj ((s + 2048 - en_h (nI g)) % 2048) (by omega)).1
      have e : (en_h (nI g) + (s + 2048 - en_h (nI g)) % 2048) % 2048 = s := by omega
      rw [e] at h
      exact h
    | succ d ih =>
      intro i hi hj
      have hs : (en_h (nI g) + i) % 2048 < 2048 := Nat.mod_lt _ (by decide)
      have enx : nI ((en_h (nI g) + i) % 2048) + 1 &&& 2047 = nI ((en_h (nI g) + (i + 1)) % 2048) := by
        rw [nI_1, pk_andN (by omega) 11 (by decide)]
        exact congrArg nI (by omega)
      have hput := fun (hn : n < 720) => en_put (g := g) (i := i) hn T (by omega) (fun d' hd' => (hj d' hd').1)
      have hnew : a_table ((en_h (nI g) + i) % 2048) < 0 → ∀ k, k < n → a k ≠ g := by
        intro hneg k hk e
        obtain ⟨d', hd', e1, e2⟩ := T.2.2 k hk
        rw [e] at e1 e2
        by_cases c : d' < i
        · exact (hj d' c).2 k hk e1 e
        · by_cases c2 : d' = i
          · subst c2
            rw [e1] at hneg
            exact nI_pos (by omega) hneg
          · exact e2 i (by omega) hneg
      generalize hsd : (en_h (nI g) + i) % 2048 = s at *
      have ec : (nI s).toNatClampNeg = s := nI_clamp (by omega)
      have en : (nI n).toNatClampNeg = n := nI_clamp (by omega)
      refine pk_le 2048 i (fun h => absurd h (by omega)) (fun _ => ⟨pk_in s 2048 hs, ?_⟩)
      rw [ec]
      refine br_c (fun hneg => ?_) (fun hpos => ?_)
      · obtain ⟨hlt, hp⟩ := h2 (hnew hneg)
        refine ⟨pk_in s 2048 hs, nm_r (by rw [ec]) ⟨pk_in n 720 hlt, nm_r (by rw [en]) (nm_r (nI_1 n) (hp _ (hput hlt hneg)))⟩⟩
      · obtain ⟨k, hk, ek⟩ := (T.1 s hs).resolve_left (fun z => hpos (by rw [z]; decide))
        refine ⟨pk_in s 2048 hs, ?_⟩
        rw [ek]
        refine ⟨pk_in k 720 (by omega), ?_⟩
        rw [nI_clamp (show k < 2 ^ 31 by omega), (ha k hk).2]
        refine pk_eq (a k) g (fun e => h1 ⟨k, hk, e⟩) (fun e => nm_r enx (nm_r (nI_1 i) (ih (i + 1) (by omega) ?_))) rfl rfl (ha k hk).1 hg
        intro j hj'
        by_cases c : j = i
        · subst c
          rw [hsd]
          refine ⟨hpos, fun k' hk' z => ?_⟩
          have := (nI_eq (by omega) (by omega)).mp (ek.symm.trans z)
          subst this
          exact e
        · exact hj j (by omega)
  refine nm_r e0 ⟨2049, ?_⟩
  have k0 := key 2048 0 rfl (fun j hj => by omega)
  have e9 : (en_h (nI g) + 0) % 2048 = en_h (nI g) := by have := en_lt (nI g); omega
  rw [e9] at k0
  exact k0
/-! shapes -/
theorem sh_le (e : Nat) : ∀ f s l w, (sh_in e f s l w).2 ≤ l + f := by
  intro f
  induction f with
  | zero => intro s l w; exact Nat.le_refl _
  | succ f ih =>
    intro s l w
    unfold sh_in
    split
    · have := ih (s ||| 2 ^ w) (l + 1) (pm_im e w); omega
    · show l ≤ l + (f + 1); omega
theorem sh_lt (e : Nat) : ∀ f s l w, s < 2 ^ 8 → w < 8 → (sh_in e f s l w).1 < 2 ^ 8 := by
  intro f
  induction f with
  | zero => intro s l w hs _; exact hs
  | succ f ih =>
    intro s l w hs hw
    unfold sh_in
    split
    · exact ih _ _ _ (Nat.or_lt_two_pow hs (Nat.pow_lt_pow_right (by decide) hw)) (pm_im8 _ _)
    · exact hs
theorem xn_bit0 {s w : Nat} (hs : s < 2 ^ 31) (hw : w < 32) : ((nI s >>> (nI w &&& 31)) &&& 1) = 0 ↔ s / 2 ^ w % 2 = 0 := by
  rw [xn_bit hs hw]
  exact nI_eq (b := 0) (by omega) (by decide)
theorem xn_4 {l : Nat} (h : 1 ≤ l) : ((4 : Int32) * nI l) - 4 = nI (4 * l - 4) := by
  have e1 : (4 : Int32) * nI l = nI (4 * l) := pk_mul 4 l
  rw [e1]
  exact pk_sub (b := 4) (by omega)
theorem xw_sh65 {post : Int32 → Prop} {J : Int32 → Int32 → Int32 → Prop} {e i s l o : Nat} (hl : l ≤ 6) (h : J (nI s) (nI (if l = 0 then o else o + 2 ^ (4 * l - 4))) (nI (i + 1))) : wX_shapeOf_65 post J (nI e) (nI s) (nI o) (nI i) (nI l) f_count f_c f_listed f_size f_shapes a_generator a_group a_table a_shape a_shapeCount a_ways := by
  refine pk_le l 0 (fun h0 => nm_r (nI_1 i) ?_) (fun h0 => nm_r (e' := nI (o + 2 ^ (4 * l - 4))) ?_ (nm_r (nI_1 i) ?_))
  · rw [if_pos (by omega)] at h; exact h
  · rw [xn_4 (by omega), xn_sl (by omega), nI_add]
  · rw [if_neg (by omega)] at h; exact h
theorem xw_sh24 {post : Int32 → Prop} {J : Int32 → Int32 → Int32 → Prop} {e i o : Nat} (he : e < 2 ^ 31) : ∀ f k, k + f = 6 → ∀ s l w, s < 2 ^ 8 → w < 8 → wX_shapeOf_65 post J (nI e) (nI (sh_in e f s l w).1) (nI o) (nI i) (nI (sh_in e f s l w).2) f_count f_c f_listed f_size f_shapes a_generator a_group a_table a_shape a_shapeCount a_ways → wX_shapeOf_24 post J (nI e) (nI o) (nI i) f_count f_c f_listed f_size f_shapes a_generator a_group a_table a_shape a_shapeCount a_ways (f + 1) (nI s) (nI l) (nI w) (nI k) := by
  intro f
  induction f with
  | zero =>
    intro k hk s l w hs hw h
    have hk : k = 6 := by omega
    subst hk
    exact pk_le 6 6 (fun _ => h) (fun h => absurd h (by omega))
  | succ f ih =>
    intro k hk s l w hs hw h
    refine pk_le 6 k (fun h => absurd h (by omega)) (fun _ => ek_if (xn_bit0 (by omega) (by omega)) (fun hb => ?_) (fun hb => ?_))
    · have e1 : nI s ||| ((1 : Int32) <<< (nI w &&& 31)) = nI (s ||| 2 ^ w) := by rw [xn_sl (by omega), xn_or]
      refine nm_r e1 (xw_image he hw (nm_r (nI_1 l) (nm_r (nI_1 k) (ih (k + 1) (by omega) _ _ _ (Nat.or_lt_two_pow hs (Nat.pow_lt_pow_right (by decide) hw)) (pm_im8 _ _) ?_))))
      unfold sh_in at h
      rw [if_pos hb] at h
      exact h
    · unfold sh_in at h
      rw [if_neg hb] at h
      exact h
theorem xw_shapeOf {post : Int32 → Prop} {u : SX} {e : Nat} (he : e < 2 ^ 31) (h : post (nI (sh_e e))) : wpX_shapeOf post u (nI e) := by
  obtain ⟨f_count, f_c, f_listed, f_size, f_shapes, a_generator, a_group, a_table, a_shape, a_shapeCount, a_ways⟩ := u
  have key : ∀ f i, i + f = 6 → ∀ s o, s < 2 ^ 8 → post (nI (sh_out e f s o i)) → wX_shapeOf_7 post (nI e) f_count f_c f_listed f_size f_shapes a_generator a_group a_table a_shape a_shapeCount a_ways (f + 1) (nI s) (nI o) (nI i) := by
    intro f
    induction f with
    | zero =>
      intro i hi s o hs h
      have hi : i = 6 := by omega
      subst hi
      exact pk_le 6 6 (fun _ => h) (fun h => absurd h (by omega))
    | succ f ih =>
      intro i hi s o hs h
      exact pk_le 6 i (fun h => absurd h (by omega)) (fun _ => ⟨7, xw_sh24 he 6 0 rfl s 0 i hs (by omega) (xw_sh65 (sh_le e 6 s 0 i) (ih (i + 1) (by omega) _ _ (sh_lt e 6 s 0 i hs (by omega)) h))⟩)
  exact ⟨7, key 6 0 rfl 0 0 (by decide) h⟩
theorem xw_countShape {post : SX → Prop} {s v : Nat} {t : Nat → Nat} (hs : s ≤ 12) (hv : v < 2 ^ 31) (ht : ∀ j, j < s → t j < 2 ^ 31 ∧ a_shape j = nI (t j)) (h1 : ∀ j, j < s → t j = v → post (f_count, f_c, f_listed, f_size, nI s, a_generator, a_group, a_table, a_shape, upd a_shapeCount j (a_shapeCount j + 1), a_ways)) (h2 : (∀ j, j < s → t j ≠ v) → s < 12 ∧ post (f_count, f_c, f_listed, f_size, nI (s + 1), a_generator, a_group, a_table, upd a_shape s (nI v), upd a_shapeCount s 1, a_ways)) : wpX_countShape post (f_count, f_c, f_listed, f_size, nI s, a_generator, a_group, a_table, a_shape, a_shapeCount, a_ways) (nI v) := by
  have key : ∀ d i, i + d = s → (∀ j, j < i → t j ≠ v) → wX_countShape_2 post (nI v) f_count f_c f_listed f_size (nI s) a_generator a_group a_table a_shape a_shapeCount a_ways (d + 1) (nI i) := by
    intro d
    induction d with
    | zero =>
      intro i hi hj
      have hi : i = s := by omega
      subst hi
      obtain ⟨a, b⟩ := h2 hj
      have ec : (nI i).toNatClampNeg = i := nI_clamp (by omega)
      exact pk_le i i (fun _ => ⟨pk_in i 12 a, nm_r (by rw [ec]) ⟨pk_in i 12 a, nm_r (by rw [ec]) (nm_r (nI_1 i) b)⟩⟩) (fun h => absurd h (by omega))
    | succ d ih =>
      intro i hi hj
      have ec : (nI i).toNatClampNeg = i := nI_clamp (by omega)
      refine pk_le s i (fun h => absurd h (by omega)) (fun _ => ⟨pk_in i 12 (by omega), ?_⟩)
      rw [ec, (ht i (by omega)).2]
      refine pk_eq (t i) v (fun e => ⟨pk_in i 12 (by omega), pk_in i 12 (by omega), nm_e (h1 i (by omega) e)⟩) (fun e => nm_r (nI_1 i) (ih (i + 1) (by omega) ?_)) rfl rfl (ht i (by omega)).1 hv
      intro j hj'
      by_cases c : j = i
      · subst c; exact e
      · exact hj j (by omega)
  exact ⟨s + 1, key s 0 (by omega) (fun j hj => by omega)⟩
theorem xw_cyclesOf {post : Int32 → Prop} {u : SX} {s l : Nat} (hs : s < 2 ^ 31) (h1 : 1 ≤ l) (h6 : l ≤ 6) (h : post (nI (sh_c s l))) : wpX_cyclesOf post u (nI s) (nI l) := by
  obtain ⟨f_count, f_c, f_listed, f_size, f_shapes, a_generator, a_group, a_table, a_shape, a_shapeCount, a_ways⟩ := u
  have h2 : s / 2 ^ (4 * l - 4) ≤ s := Nat.div_le_self _ _
  have e : (nI s >>> ((((4 : Int32) * nI l) - 4) &&& 31)) &&& 15 = nI (sh_c s l) := by
    rw [xn_4 h1, pk_shrN hs _ (4 * l - 4) (s_l _ (by omega)), pk_andN (by omega) 4 (by decide)]
    rfl
  show post ((nI s >>> ((((4 : Int32) * nI l) - 4) &&& 31)) &&& 15)
  rw [e]
  exact h
theorem xw_allCycles {post : Int32 → Prop} {u : SX} {s : Nat} (hs : s < 2 ^ 31) (h : post (nI (sh_a s))) : wpX_allCycles post u (nI s) := by
  obtain ⟨f_count, f_c, f_listed, f_size, f_shapes, a_generator, a_group, a_table, a_shape, a_shapeCount, a_ways⟩ := u
  have key : ∀ d i, i + d = 6 → wX_allCycles_4 post (nI s) f_count f_c f_listed f_size f_shapes a_generator a_group a_table a_shape a_shapeCount a_ways (d + 1) (nI (cs_s (fun i => sh_c s (i + 1)) i)) (nI (i + 1)) := by
    intro d
    induction d with
    | zero =>
      intro i hi
      have hi : i = 6 := by omega
      subst hi
      exact pk_lt 6 7 (fun _ => h) (fun h => absurd h (by omega))
    | succ d ih =>
      intro i hi
      exact pk_lt 6 (i + 1) (fun h => absurd h (by omega)) (fun _ => xw_cyclesOf hs (by omega) (by omega) (nm_r (nI_add _ _) (nm_r (nI_1 (i + 1)) (ih (i + 1) (by omega)))))
  exact ⟨7, key 6 0 rfl⟩
theorem xw_power {post : Int32 → Prop} {u : SX} {b n : Nat} (hn : n < 2 ^ 31) (h : post (nI (b ^ n))) : wpX_power post u (nI b) (nI n) := by
  obtain ⟨f_count, f_c, f_listed, f_size, f_shapes, a_generator, a_group, a_table, a_shape, a_shapeCount, a_ways⟩ := u
  have key : ∀ d i, i + d = n → wX_power_5 post (nI b) (nI n) f_count f_c f_listed f_size f_shapes a_generator a_group a_table a_shape a_shapeCount a_ways (d + 1) (nI (b ^ i)) (nI i) := by
    intro d
    induction d with
    | zero =>
      intro i hi
      have hi : i = n := by omega
      subst hi
      exact pk_le i i (fun _ => h) (fun h => absurd h (by omega))
    | succ d ih =>
      intro i hi
      have e1 : nI (b ^ i) * nI b = nI (b ^ (i + 1)) := by rw [pk_mul, Nat.pow_succ]
      exact pk_le n i (fun h => absurd h (by omega)) (fun _ => nm_r e1 (nm_r (nI_1 i) (ih (i + 1) (by omega))))
  exact ⟨n + 1, key n 0 (by omega)⟩
end
end
section
/-! the group's listing, place by place: those below got are closed, of got the generators below q -/
def bf_B (m : Nat) (e : Nat → Nat) (n : Nat) (a : Nat → Nat) (got q : Nat) : Prop :=
  (∀ i, i < m → pm_P (e i)) ∧ (∀ k, k < n → pm_P (a k)) ∧ (∀ k k', k < n → k' < n → a k = a k' → k = k') ∧ (∃ k, k < n ∧ a k = 181896) ∧
  (∀ g, g < got → ∀ i, i < m → ∃ j, j < n ∧ a j = pm_cmp (a g) (e i)) ∧ (∀ i, i < q → ∃ j, j < n ∧ a j = pm_cmp (a got) (e i)) ∧
  (∀ P : Nat → Prop, P 181896 → (∀ x, pm_P x → P x → ∀ i, i < m → P (pm_cmp x (e i))) → ∀ k, k < n → P (a k))
section
variable {m n got q : Nat} {e a : Nat → Nat}
theorem bf_0 (he : ∀ i, i < m → pm_P (e i)) (a : Nat → Nat) : bf_B m e 1 (en_x a 0 181896) 0 0 := by
  have z : ∀ k, k < 1 → en_x a 0 181896 k = 181896 := fun k hk => by
    have : k = 0 := by omega
    subst this; exact en_xn _ _ _
  refine ⟨he, fun k hk => by rw [z k hk]; exact pm_idP, fun k k' hk hk' _ => by omega, ⟨0, by omega, z 0 (by omega)⟩, fun g hg => by omega, fun i hi => by omega, fun P h0 _ k hk => by rw [z k hk]; exact h0⟩
theorem bf_old (B : bf_B m e n a got q) (h : ∃ j, j < n ∧ a j = pm_cmp (a got) (e q)) : bf_B m e n a got (q + 1) := by
  obtain ⟨b1, b2, b3, b4, b5, b6, b7⟩ := B
  refine ⟨b1, b2, b3, b4, b5, fun i hi => ?_, b7⟩
  by_cases c : i = q
  · subst c; exact h
  · exact b6 i (by omega)
theorem bf_new (B : bf_B m e n a got q) (hg : got < n) (hq : q < m) (h : ∀ j, j < n → a j ≠ pm_cmp (a got) (e q)) : bf_B m e (n + 1) (en_x a n (pm_cmp (a got) (e q))) got (q + 1) := by
  obtain ⟨b1, b2, b3, b4, b5, b6, b7⟩ := B
  have lift : ∀ z, (∃ j, j < n ∧ a j = z) → ∃ j, j < n + 1 ∧ en_x a n (pm_cmp (a got) (e q)) j = z := fun z ⟨j, hj, ej⟩ => ⟨j, by omega, by rw [en_xo hj]; exact ej⟩
  have hp := pm_cmpP (b2 got hg) (b1 q hq)
  refine ⟨b1, fun k hk => ?_, fun k k' hk hk' z => ?_, lift _ b4, fun g hg' i hi => ?_, fun i hi => ?_, fun P h0 h1 k hk => ?_⟩
  · by_cases c : k = n
    · subst c; rw [en_xn]; exact hp
    · rw [en_xo (by omega)]; exact b2 k (by omega)
  · by_cases c : k = n
    · by_cases c' : k' = n
      · omega
      · rw [c, en_xn, en_xo (show k' < n by omega)] at z
        exact absurd z.symm (h k' (by omega))
    · by_cases c' : k' = n
      · rw [c', en_xn, en_xo (show k < n by omega)] at z
        exact absurd z (h k (by omega))
      · rw [en_xo (show k < n by omega), en_xo (show k' < n by omega)] at z
        exact b3 k k' (by omega) (by omega) z
  · rw [en_xo (show g < n by omega)]
    exact lift _ (b5 g hg' i hi)
  · rw [en_xo hg]
    by_cases c : i = q
    · subst c; exact ⟨n, by omega, en_xn _ _ _⟩
    · exact lift _ (b6 i (by omega))
  · by_cases c : k = n
    · subst c; rw [en_xn]; exact h1 _ (b2 got hg) (b7 P h0 h1 got hg) q hq
    · rw [en_xo (by omega)]; exact b7 P h0 h1 k (by omega)
theorem bf_next (B : bf_B m e n a got m) : bf_B m e n a (got + 1) 0 := by
  obtain ⟨b1, b2, b3, b4, b5, b6, b7⟩ := B
  refine ⟨b1, b2, b3, b4, fun g hg i hi => ?_, fun i hi => by omega, b7⟩
  by_cases c : g = got
  · subst c; exact b6 i hi
  · exact b5 g (by omega) i hi
theorem bf_end (B : bf_B m e n a n 0) : gr_G m e n a := by
  obtain ⟨b1, b2, b3, b4, b5, b6, b7⟩ := B
  exact ⟨b1, b2, b3, b4, b5, b7⟩
theorem bf_720 (B : bf_B m e n a got q) : n ≤ 720 := gr_bd B.2.1 B.2.2.1
end
theorem pm_31 {e : Nat} (h : pm_P e) : e < 2 ^ 31 := Nat.lt_trans h.1 (by decide)
def xr_R (n : Nat) (a : Nat → Nat) (gp tb : Nat → Int32) : Prop := (∀ k, k < n → gp k = nI (a k)) ∧ en_T n a tb
theorem xr_put {n g : Nat} {a : Nat → Nat} {gp : Nat → Int32} (h : ∀ k, k < n → gp k = nI (a k)) : ∀ k, k < n + 1 → upd gp n (nI g) k = nI (en_x a n g k) := fun k hk => by
  by_cases c : k = n
  · subst c; rw [pk_us, en_xn]
  · rw [pk_un c, en_xo (by omega)]; exact h k (by omega)
/-- the table of shapes, k of the group counted -/
def xs_S (k : Nat) (a : Nat → Nat) (s : Nat) (t : Nat → Nat) (sp sc : Nat → Int32) : Prop :=
  (∀ j, j < s → t j ∈ kc_sl ∧ sp j = nI (t j) ∧ sc j = nI (cs_c (fun i => sh_e (a i) == t j) k)) ∧ (∀ j j', j < s → j' < s → t j = t j' → j = j') ∧ ∀ i, i < k → ∃ j, j < s ∧ t j = sh_e (a i)
theorem xs_11 {s : Nat} {t : Nat → Nat} (h1 : ∀ j, j < s → t j ∈ kc_sl) (h2 : ∀ j j', j < s → j' < s → t j = t j' → j = j') : s ≤ 11 := by
  have h := cs_inj (n := s) (m := 11) (p := fun _ => true) (fun j i => ∃ h : i < kc_sl.length, kc_sl[i] = t j) (fun j j' i hj hj' _ _ a b => by
    obtain ⟨_, a⟩ := a
    obtain ⟨_, b⟩ := b
    exact h2 j j' hj hj' (a.symm.trans b)) (fun _ => true) (fun j hj _ => by
    obtain ⟨i, hi, e⟩ := List.getElem_of_mem (h1 j hj)
    exact ⟨i, hi, rfl, hi, e⟩)
  rw [cs_call, cs_call] at h
  exact h
theorem xs_31 {s : Nat} (h : s ∈ kc_sl) : s < 2 ^ 31 := Nat.lt_trans (kf_sl h).1 (by decide)
theorem xs_old {k s j : Nat} {a t : Nat → Nat} {sp sc : Nat → Int32} (S : xs_S k a s t sp sc) (hj : j < s) (h : t j = sh_e (a k)) : xs_S (k + 1) a s t sp (upd sc j (sc j + 1)) := by
  obtain ⟨s1, s2, s3⟩ := S
  refine ⟨fun i hi => ⟨(s1 i hi).1, (s1 i hi).2.1, ?_⟩, s2, fun i hi => ?_⟩
  · by_cases c : i = j
    · subst c
      rw [pk_us, (s1 i hi).2.2, cs_c1, cs_beqt h.symm, nI_1]; rfl
    · have hne : sh_e (a k) ≠ t i := fun z => c (s2 i j hi hj (z.symm.trans h.symm))
      rw [pk_un c, (s1 i hi).2.2, cs_c1, cs_beqf hne]; rfl
  · by_cases c : i = k
    · subst c; exact ⟨j, hj, h⟩
    · exact s3 i (by omega)
theorem xs_new {k s : Nat} {a t : Nat → Nat} {sp sc : Nat → Int32} (S : xs_S k a s t sp sc) (hm : sh_e (a k) ∈ kc_sl) (h : ∀ j, j < s → t j ≠ sh_e (a k)) : xs_S (k + 1) a (s + 1) (en_x t s (sh_e (a k))) (upd sp s (nI (sh_e (a k)))) (upd sc s 1) := by
  obtain ⟨s1, s2, s3⟩ := S
  refine ⟨fun i hi => ?_, fun i i' hi hi' z => ?_, fun i hi => ?_⟩
  · by_cases c : i = s
    · subst c
      rw [en_xn, pk_us, pk_us]
      refine ⟨hm, rfl, ?_⟩
      rw [cs_c1, cs_beqt rfl, cs_czero]
      · rfl
      · intro i' hi'
        apply cs_beqf
        intro z
        obtain ⟨j, hj, e⟩ := s3 i' hi'
        exact h j hj (e.trans z)
    · have hi : i < s := by omega
      rw [en_xo hi, pk_un c, pk_un c]
      refine ⟨(s1 i hi).1, (s1 i hi).2.1, ?_⟩
      rw [(s1 i hi).2.2, cs_c1, cs_beqf (fun z => h i hi z.symm)]; rfl
  · by_cases c : i = s
    · by_cases c' : i' = s
      · omega
      · rw [c, en_xn, en_xo (show i' < s by omega)] at z
        exact absurd z.symm (h i' (by omega))
    · by_cases c' : i' = s
      · rw [c', en_xn, en_xo (show i < s by omega)] at z
        exact absurd z (h i (by omega))
      · rw [en_xo (show i < s by omega), en_xo (show i' < s by omega)] at z
        exact s2 i i' (by omega) (by omega) z
  · by_cases c : i = k
    · subst c; exact ⟨s, by omega, en_xn _ _ _⟩
    · obtain ⟨j, hj, e⟩ := s3 i (by omega)
      exact ⟨j, by omega, by rw [en_xo hj]; exact e⟩
/-- listed -/
def xl_L (m : Nat) (e : Nat → Nat) (fn fs : Int32) (gp sp sc : Nat → Int32) : Prop := ∃ (n : Nat) (a : Nat → Nat) (s : Nat) (t : Nat → Nat), fn = nI n ∧ fs = nI s ∧ gr_G m e n a ∧ (∀ k, k < n → gp k = nI (a k)) ∧ xs_S n a s t sp sc
section
variable {f_count f_c f_listed f_size f_shapes : Int32} {a_generator a_group a_table a_shape a_shapeCount a_ways : Nat → Int32}
variable {m : Nat} {e : Nat → Nat}
theorem xw_l60 {post : SX → Prop} {J : Int32 → Int32 → Int32 → Int32 → Int32 → Int32 → (Nat → Int32) → (Nat → Int32) → (Nat → Int32) → (Nat → Int32) → (Nat → Int32) → (Nat → Int32) → Prop} {got : Nat} (hm : m ≤ 3) (he : ∀ i, i < m → a_generator i = nI (e i)) (hJ : ∀ n a gp tb, bf_B m e n a (got + 1) 0 → xr_R n a gp tb → got < n → J (nI (got + 1)) (nI m) f_c f_listed (nI n) f_shapes a_generator gp tb a_shape a_shapeCount a_ways) : ∀ d q, q + d = m → ∀ n a gp tb, bf_B m e n a got q → xr_R n a gp tb → got < n → wX_listGroup_60 post J (nI got) (d + 1) (nI q) (nI m) f_c f_listed (nI n) f_shapes a_generator gp tb a_shape a_shapeCount a_ways := by
  intro d
  induction d with
  | zero =>
    intro q hq n a gp tb B R hg
    have hq : q = m := by omega
    subst hq
    exact pk_le q q (fun _ => nm_r (nI_1 got) (hJ n a gp tb (bf_next B) R hg)) (fun h => absurd h (by omega))
  | succ d ih =>
    intro q hq n a gp tb B R hg
    have hn := bf_720 B
    have ec : (nI got).toNatClampNeg = got := nI_clamp (by omega)
    have eq : (nI q).toNatClampNeg = q := nI_clamp (by omega)
    refine pk_le m q (fun h => absurd h (by omega)) (fun _ => ⟨pk_in got 720 (by omega), pk_in q 3 (by omega), ?_⟩)
    rw [ec, eq, R.1 got hg, he q (by omega)]
    refine xw_both (pm_31 (B.2.1 got hg)) (pm_31 (B.1 q (by omega))) ?_
    refine xw_enter (a := a) hn (Nat.lt_trans (pm_cmplt _ _) (by decide)) (fun k hk => ⟨pm_31 (B.2.1 k hk), R.1 k hk⟩) R.2 (fun h => ?_) (fun h => ?_)
    · exact nm_r (nI_1 q) (ih (q + 1) (by omega) n a gp tb (bf_old B h) R hg)
    · have B' := bf_new B hg (by omega) h
      have hn' := bf_720 B'
      refine ⟨by omega, fun tb' T => ?_⟩
      exact nm_r (nI_1 q) (ih (q + 1) (by omega) (n + 1) _ _ tb' B' ⟨xr_put R.1, T⟩ (by omega))
theorem xw_l109 {post : SX → Prop} {n : Nat} {a : Nat → Nat} (hn : n ≤ 720) (ha : ∀ k, k < n → pm_P (a k) ∧ a_group k = nI (a k)) (hp : ∀ s t sp sc, xs_S n a s t sp sc → post (f_count, f_c, 1, nI n, nI s, a_generator, a_group, a_table, sp, sc, a_ways)) : ∀ d k, k + d = n → ∀ s t sp sc, xs_S k a s t sp sc → wX_listGroup_109 post (d + 1) (nI k) f_count f_c f_listed (nI n) (nI s) a_generator a_group a_table sp sc a_ways := by
  intro d
  induction d with
  | zero =>
    intro k hk s t sp sc S
    have hk : k = n := by omega
    subst hk
    exact pk_le k k (fun _ => hp s t sp sc S) (fun h => absurd h (by omega))
  | succ d ih =>
    intro k hk s t sp sc S
    have ec : (nI k).toNatClampNeg = k := nI_clamp (by omega)
    have h11 := xs_11 (fun j hj => (S.1 j hj).1) S.2.1
    have hk1 := ha k (by omega)
    have hsl := (kf_M hk1.1).1
    refine pk_le n k (fun h => absurd h (by omega)) (fun _ => ⟨pk_in k 720 (by omega), ?_⟩)
    rw [ec, hk1.2]
    refine xw_shapeOf (pm_31 hk1.1) ?_
    refine xw_countShape (t := t) (by omega) (xs_31 hsl) (fun j hj => ⟨xs_31 (S.1 j hj).1, (S.1 j hj).2.1⟩) (fun j hj h => ?_) (fun h => ?_)
    · exact nm_r (nI_1 k) (ih (k + 1) (by omega) s t sp _ (xs_old S hj h))
    · exact ⟨by omega, nm_r (nI_1 k) (ih (k + 1) (by omega) (s + 1) _ _ _ (xs_new S hsl h))⟩
theorem xw_l43 {post : SX → Prop} (hm : m ≤ 3) (he : ∀ i, i < m → a_generator i = nI (e i)) (hp : ∀ n a gp tb s t sp sc, gr_G m e n a → (∀ k, k < n → gp k = nI (a k)) → xs_S n a s t sp sc → post (nI m, f_c, 1, nI n, nI s, a_generator, gp, tb, sp, sc, a_ways)) : ∀ d got, got + d = 720 → ∀ n a gp tb, bf_B m e n a got 0 → xr_R n a gp tb → got ≤ n → wX_listGroup_43 post (d + 1) (nI got) (nI m) f_c f_listed (nI n) f_shapes a_generator gp tb a_shape a_shapeCount a_ways := by
  have fin : ∀ n a gp tb, gr_G m e n a → xr_R n a gp tb → ∃ n109 : Nat, wX_listGroup_109 post n109 0 (nI m) f_c f_listed (nI n) 0 a_generator gp tb a_shape a_shapeCount a_ways := fun n a gp tb G R =>
    ⟨n + 1, xw_l109 (gr_720 G) (fun k hk => ⟨G.2.1 k hk, R.1 k hk⟩) (fun s t sp sc S => hp n a gp tb s t sp sc G R.1 S) n 0 (by omega) 0 (fun _ => 0) a_shape a_shapeCount ⟨fun j hj => by omega, fun j j' hj => by omega, fun i hi => by omega⟩⟩
  intro d
  induction d with
  | zero =>
    intro got hg n a gp tb B R hle
    have hn := bf_720 B
    have e1 : got = n := by omega
    subst e1
    exact pk_le got got (fun _ => fin got a gp tb (bf_end B) R) (fun h => absurd h (by omega))
  | succ d ih =>
    intro got hg n a gp tb B R hle
    have hn := bf_720 B
    refine pk_le n got (fun h => ?_) (fun h => ?_)
    · have e1 : got = n := by omega
      subst e1
      exact fin got a gp tb (bf_end B) R
    · exact pk_le 720 got (fun h => absurd h (by omega)) (fun _ => ⟨m + 1, xw_l60 hm he (fun n a gp tb B R h => ih (got + 1) (by omega) n a gp tb B R (by omega)) m 0 (by omega) n a gp tb B R h⟩)
theorem xw_listGroup {post : SX → Prop} (hm : m ≤ 3) (hP : ∀ i, i < m → pm_P (e i)) (he : ∀ i, i < m → a_generator i = nI (e i)) (hl : f_listed = 0 ∨ (f_listed = 1 ∧ xl_L m e f_size f_shapes a_group a_shape a_shapeCount)) (hp : ∀ fn fs gp tb sp sc, xl_L m e fn fs gp sp sc → post (nI m, f_c, 1, fn, fs, a_generator, gp, tb, sp, sc, a_ways)) : wpX_listGroup post (nI m, f_c, f_listed, f_size, f_shapes, a_generator, a_group, a_table, a_shape, a_shapeCount, a_ways) := by
  have key : ∀ d i, i + d = 2048 → ∀ tb : Nat → Int32, (∀ s, s < i → tb s = -1) → wX_listGroup_10 post (nI m) f_c f_listed f_size f_shapes (d + 1) (nI i) a_generator a_group tb a_shape a_shapeCount a_ways := by
    intro d
    induction d with
    | zero =>
      intro i hi tb ht
      have hi : i = 2048 := by omega
      subst hi
      refine pk_le 2048 2048 (fun _ => ?_) (fun h => absurd h (by omega))
      refine xw_enter (n := 0) (g := 181896) (a := fun _ => 0) (by omega) (by decide) (fun k hk => by omega) ⟨fun s hs => Or.inl (ht s hs), fun s s' k _ _ _ _ hk => by omega, fun k hk => by omega⟩ (fun h => ?_) (fun _ => ?_)
      · obtain ⟨k, hk, _⟩ := h
        omega
      · refine ⟨by omega, fun tb' T => ⟨721, ?_⟩⟩
        exact xw_l43 hm he (fun n a gp tb s t sp sc G R S => hp _ _ gp tb sp sc ⟨n, a, s, t, rfl, rfl, G, R, S⟩) 720 0 rfl 1 _ _ tb' (bf_0 hP _) ⟨xr_put (fun k hk => by omega), T⟩ (by omega)
    | succ d ih =>
      intro i hi tb ht
      have ec : (nI i).toNatClampNeg = i := nI_clamp (by omega)
      refine pk_le 2048 i (fun h => absurd h (by omega)) (fun _ => ⟨pk_in i 2048 (by omega), nm_r (by rw [ec]) (nm_r (nI_1 i) (ih (i + 1) (by omega) _ ?_))⟩)
      intro s hs
      by_cases c : s = i
      · subst c; exact pk_us
      · rw [pk_un c]; exact ht s (by omega)
  refine br_c (fun _ => ⟨2049, key 2048 0 rfl a_table (fun s hs => by omega)⟩) (fun h => ?_)
  obtain ⟨h1, h2⟩ := hl.resolve_left h
  subst h1
  exact hp _ _ _ _ _ _ h2
end
end
section
/-! averages over the table of shapes -/
noncomputable def xv_p (n : Nat) (a t F : Nat → Nat) (j : Nat) : Nat := cs_s (fun i => cs_c (fun k => sh_e (a k) == t i) n * F (t i)) j
theorem xv_1 (n : Nat) (a t F : Nat → Nat) (j : Nat) : xv_p n a t F (j + 1) = xv_p n a t F j + cs_c (fun k => sh_e (a k) == t j) n * F (t j) := rfl
theorem xv_all {n s : Nat} {a t : Nat → Nat} {sp sc : Nat → Int32} (S : xs_S n a s t sp sc) (F : Nat → Nat) : xv_p n a t F s = cs_s (fun k => F (sh_e (a k))) n := cs_cls (fun k => sh_e (a k)) t S.2.1 S.2.2 F
theorem xv_div {n K V : Nat} (hn : 0 < n) (h7 : n ≤ 720) (hK : K ≤ 100000) (hV : V = n * K) : nI V / nI n = nI K := by
  have h : n * K ≤ 720 * 100000 := Nat.mul_le_mul h7 hK
  rw [hV, pk_div (by omega) hn (by omega), Nat.mul_div_cancel_left _ hn]
section
variable {f_count f_c f_listed f_size f_shapes : Int32} {a_generator a_group a_table a_shape a_shapeCount a_ways : Nat → Int32}
variable {n s : Nat} {a t : Nat → Nat}
theorem xw_withCycles {post : Int32 → SX → Prop} {v : Int32} (S : xs_S n a s t a_shape a_shapeCount) (h : post (nI (cs_c (fun k => decide (nI (sh_a (sh_e (a k))) = v)) n)) (f_count, f_c, f_listed, f_size, nI s, a_generator, a_group, a_table, a_shape, a_shapeCount, a_ways)) : ∃ n8 : Nat, wX_withCycles_8 post v f_count f_c f_listed f_size (nI s) a_generator a_group a_table a_shape a_shapeCount a_ways n8 0 0 := by
  have h11 := xs_11 (fun j hj => (S.1 j hj).1) S.2.1
  have key : ∀ d j, j + d = s → wX_withCycles_8 post v f_count f_c f_listed f_size (nI s) a_generator a_group a_table a_shape a_shapeCount a_ways (d + 1) (nI (xv_p n a t (fun s => (decide (nI (sh_a s) = v)).toNat) j)) (nI j) := by
    intro d
    induction d with
    | zero =>
      intro j hj
      have hj : j = s := by omega
      subst hj
      rw [xv_all S]
      exact pk_le j j (fun _ => h) (fun h => absurd h (by omega))
    | succ d ih =>
      intro j hj
      have ec : (nI j).toNatClampNeg = j := nI_clamp (by omega)
      have hs := S.1 j (by omega)
      have hi := ih (j + 1) (by omega)
      rw [xv_1] at hi
      refine pk_le s j (fun h => absurd h (by omega)) (fun _ => ⟨pk_in j 12 (by omega), ?_⟩)
      rw [ec, hs.2.1]
      refine xw_allCycles (xs_31 hs.1) ?_
      refine br_c (fun e => ⟨pk_in j 12 (by omega), ?_⟩) (fun e => ?_)
      · rw [hs.2.2, nI_add]
        rw [decide_eq_true e] at hi
        exact nm_r (congrArg nI (by rw [show (true : Bool).toNat = 1 from rfl, Nat.mul_one])) (nm_r (nI_1 j) hi)
      · rw [decide_eq_false e, show (false : Bool).toNat = 0 from rfl, Nat.mul_zero, Nat.add_zero] at hi
        exact nm_r (nI_1 j) hi
  exact ⟨s + 1, key s 0 (by omega)⟩
theorem xw_kindsOf {post : Int32 → Prop} {b K : Nat} (hn : 0 < n) (h7 : n ≤ 720) (S : xs_S n a s t a_shape a_shapeCount) (hK : K ≤ 100000) (hV : cs_s (fun k => b ^ sh_a (sh_e (a k))) n = n * K) (h : post (nI K)) : wpX_kindsOf post (f_count, f_c, f_listed, nI n, nI s, a_generator, a_group, a_table, a_shape, a_shapeCount, a_ways) (nI b) := by
  have h11 := xs_11 (fun j hj => (S.1 j hj).1) S.2.1
  have key : ∀ d j, j + d = s → wX_kindsOf_4 post (nI b) f_count f_c f_listed (nI n) (nI s) a_generator a_group a_table a_shape a_shapeCount a_ways (d + 1) (nI (xv_p n a t (fun s => b ^ sh_a s) j)) (nI j) := by
    intro d
    induction d with
    | zero =>
      intro j hj
      have hj : j = s := by omega
      subst hj
      rw [xv_all S]
      have e := xv_div hn h7 hK hV
      exact pk_le j j (fun _ => pk_le n 0 (fun h => absurd h (by omega)) (fun _ => ⟨nI_ne0 hn (by omega), by rw [e]; exact h⟩)) (fun h => absurd h (by omega))
    | succ d ih =>
      intro j hj
      have ec : (nI j).toNatClampNeg = j := nI_clamp (by omega)
      have hs := S.1 j (by omega)
      have ha := (kf_sl hs.1).2.1
      have hi := ih (j + 1) (by omega)
      rw [xv_1] at hi
      refine pk_le s j (fun h => absurd h (by omega)) (fun _ => ⟨pk_in j 12 (by omega), ?_⟩)
      rw [ec, hs.2.1, hs.2.2]
      exact xw_allCycles (xs_31 hs.1) (xw_power (by omega) ⟨pk_in j 12 (by omega), nm_r (by rw [pk_mul, nI_add]) (nm_r (nI_1 j) hi)⟩)
  exact ⟨s + 1, key s 0 (by omega)⟩
theorem xw_orbitCount {post : Int32 → Prop} {K : Nat} (hn : 0 < n) (h7 : n ≤ 720) (S : xs_S n a s t a_shape a_shapeCount) (hK : K ≤ 100000) (hV : cs_s (fun k => sh_c (sh_e (a k)) 1) n = n * K) (h : post (nI K)) : wpX_orbitCount post (f_count, f_c, f_listed, nI n, nI s, a_generator, a_group, a_table, a_shape, a_shapeCount, a_ways) := by
  have h11 := xs_11 (fun j hj => (S.1 j hj).1) S.2.1
  have key : ∀ d j, j + d = s → wX_orbitCount_4 post f_count f_c f_listed (nI n) (nI s) a_generator a_group a_table a_shape a_shapeCount a_ways (d + 1) (nI (xv_p n a t (fun s => sh_c s 1) j)) (nI j) := by
    intro d
    induction d with
    | zero =>
      intro j hj
      have hj : j = s := by omega
      subst hj
      rw [xv_all S]
      have e := xv_div hn h7 hK hV
      exact pk_le j j (fun _ => pk_le n 0 (fun h => absurd h (by omega)) (fun _ => ⟨nI_ne0 hn (by omega), by rw [e]; exact h⟩)) (fun h => absurd h (by omega))
    | succ d ih =>
      intro j hj
      have ec : (nI j).toNatClampNeg = j := nI_clamp (by omega)
      have hs := S.1 j (by omega)
      have hi := ih (j + 1) (by omega)
      rw [xv_1] at hi
      refine pk_le s j (fun h => absurd h (by omega)) (fun _ => ⟨pk_in j 12 (by omega), ?_⟩)
      rw [ec, hs.2.1, hs.2.2]
      exact xw_cyclesOf (l := 1) (xs_31 hs.1) (by omega) (by omega) ⟨pk_in j 12 (by omega), nm_r (by rw [pk_mul, nI_add]) (nm_r (nI_1 j) hi)⟩
  exact ⟨s + 1, key s 0 (by omega)⟩
theorem xn_half {x : Nat} (h : x ≤ 6) : (nI x * (nI x - 1)) / 2 = nI (x * (x - 1) / 2) := by
  have e : ∀ x, x < 7 → (nI x * (nI x - 1)) / 2 = nI (x * (x - 1) / 2) := by decide +kernel
  exact e x (by omega)
theorem xw_pairKinds {post : Int32 → SX → Prop} {K : Nat} (hn : 0 < n) (h7 : n ≤ 720) (S : xs_S n a s t a_shape a_shapeCount) (hK : K ≤ 100000) (hV : cs_s (fun k => sh_c (sh_e (a k)) 1 * (sh_c (sh_e (a k)) 1 - 1) / 2 + sh_c (sh_e (a k)) 2) n = n * K) (h : post (nI K) (f_count, f_c, f_listed, nI n, nI s, a_generator, a_group, a_table, a_shape, a_shapeCount, a_ways)) : ∃ n8 : Nat, wX_pairKinds_8 post f_count f_c f_listed (nI n) (nI s) a_generator a_group a_table a_shape a_shapeCount a_ways n8 0 0 := by
  have h11 := xs_11 (fun j hj => (S.1 j hj).1) S.2.1
  have key : ∀ d j, j + d = s → wX_pairKinds_8 post f_count f_c f_listed (nI n) (nI s) a_generator a_group a_table a_shape a_shapeCount a_ways (d + 1) (nI (xv_p n a t (fun s => sh_c s 1 * (sh_c s 1 - 1) / 2 + sh_c s 2) j)) (nI j) := by
    intro d
    induction d with
    | zero =>
      intro j hj
      have hj : j = s := by omega
      subst hj
      rw [xv_all S]
      have e := xv_div hn h7 hK hV
      exact pk_le j j (fun _ => pk_le n 0 (fun h => absurd h (by omega)) (fun _ => ⟨nI_ne0 hn (by omega), by rw [e]; exact h⟩)) (fun h => absurd h (by omega))
    | succ d ih =>
      intro j hj
      have ec : (nI j).toNatClampNeg = j := nI_clamp (by omega)
      have hs := S.1 j (by omega)
      have h1 := (kf_sl hs.1).2.2 1 (by omega)
      have hi := ih (j + 1) (by omega)
      rw [xv_1] at hi
      refine pk_le s j (fun h => absurd h (by omega)) (fun _ => ⟨pk_in j 12 (by omega), ?_⟩)
      rw [ec, hs.2.1, hs.2.2]
      exact xw_cyclesOf (l := 1) (xs_31 hs.1) (by omega) (by omega) ⟨pk_in j 12 (by omega), xw_cyclesOf (l := 2) (xs_31 hs.1) (by omega) (by omega) ⟨pk_in j 12 (by omega), by decide, nm_r (by rw [xn_half h1, nI_add, pk_mul, nI_add]) (nm_r (nI_1 j) hi)⟩⟩
  exact ⟨s + 1, key s 0 (by omega)⟩
/-! those exchanged -/
theorem xn_2r {a : Nat} (h : a < 2 ^ 31) : nI a - nI a / 2 * 2 = nI (a % 2) := pk_rem (d := 2) h (by decide) (by decide)
theorem xw_se50 {post : Int32 → SX → Prop} {J18 J31 : Int32 → Int32 → Prop} {x1 : Int32} {j v l c z : Nat} (hj : j < 12) (h1 : 1 ≤ l) (h6 : l ≤ 6) (hc : 2 ≤ z + c) (hs : ∃ w, w ∈ kc_sl ∧ a_shape j = nI w ∧ J31 (nI (v * (z + c - 2) ^ sh_c w l)) (nI (l + 1))) : wX_selfExchanged_50 post J18 J31 x1 (nI j) (nI v) (nI l) (nI z) f_count (nI c) f_listed f_size f_shapes a_generator a_group a_table a_shape a_shapeCount a_ways := by
  obtain ⟨w, hw, e, hJ⟩ := hs
  have ec : (nI j).toNatClampNeg = j := nI_clamp (by omega)
  have e1 : nI z + nI c - 2 = nI (z + c - 2) := by rw [nI_add]; exact pk_sub (b := 2) (by omega)
  have h7 := (kf_sl hw).2.2 l (by omega)
  refine nm_r e1 ⟨pk_in j 12 hj, ?_⟩
  rw [ec, e]
  exact xw_cyclesOf (xs_31 hw) h1 h6 (xw_power (by omega) (nm_r (pk_mul _ _) (nm_r (nI_1 l) hJ)))
theorem xw_selfExchanged {post : Int32 → SX → Prop} {K c : Nat} (hc : 2 ≤ c) (hn : 0 < n) (h7 : n ≤ 720) (S : xs_S n a s t a_shape a_shapeCount) (hK : K ≤ 100000) (hV : cs_s (fun k => se_p c (sh_e (a k)) 6) n = n * K) (h : post (nI K) (f_count, nI c, f_listed, nI n, nI s, a_generator, a_group, a_table, a_shape, a_shapeCount, a_ways)) : ∃ n18 : Nat, wX_selfExchanged_18 post f_count (nI c) f_listed (nI n) (nI s) a_generator a_group a_table a_shape a_shapeCount a_ways n18 0 0 := by
  have h11 := xs_11 (fun j hj => (S.1 j hj).1) S.2.1
  have inner : ∀ (J : Int32 → Int32 → Prop) (j X : Nat), j < s → J (nI (X + cs_c (fun k => sh_e (a k) == t j) n * se_p c (t j) 6)) (nI (j + 1)) → ∀ d l, l + d = 6 → wX_selfExchanged_31 post J (nI X) (nI j) f_count (nI c) f_listed (nI n) (nI s) a_generator a_group a_table a_shape a_shapeCount a_ways (d + 1) (nI (se_p c (t j) l)) (nI (l + 1)) := by
    intro J j X hj hJ d
    have hs := S.1 j (by omega)
    have ec : (nI j).toNatClampNeg = j := nI_clamp (by omega)
    induction d with
    | zero =>
      intro l hl
      have hl : l = 6 := by omega
      subst hl
      refine pk_lt 6 7 (fun _ => ⟨pk_in j 12 (by omega), ?_⟩) (fun h => absurd h (by omega))
      rw [ec, hs.2.2]
      exact nm_r (by rw [pk_mul, nI_add]) (nm_r (nI_1 j) hJ)
    | succ d ih =>
      intro l hl
      have hi := ih (l + 1) (by omega)
      refine pk_lt 6 (l + 1) (fun h => absurd h (by omega)) (fun _ => ⟨by decide, ?_⟩)
      rw [xn_2r (by omega)]
      refine pk_eq ((l + 1) % 2) 0 (fun e => xw_se50 (z := 2) (by omega) (by omega) (by omega) (by omega) ⟨t j, hs.1, hs.2.1, ?_⟩) (fun e => xw_se50 (z := 0) (by omega) (by omega) (by omega) (by omega) ⟨t j, hs.1, hs.2.1, ?_⟩)
      · have e2 : se_p c (t j) (l + 1) = se_p c (t j) l * (2 + c - 2) ^ sh_c (t j) (l + 1) := by
          show se_p c (t j) l * se_c c (l + 1) ^ sh_c (t j) (l + 1) = _
          rw [se_c, if_pos e]
        rw [← e2]; exact hi
      · have e2 : se_p c (t j) (l + 1) = se_p c (t j) l * (0 + c - 2) ^ sh_c (t j) (l + 1) := by
          show se_p c (t j) l * se_c c (l + 1) ^ sh_c (t j) (l + 1) = _
          rw [se_c, if_neg e]
        rw [← e2]; exact hi
  have key : ∀ d j, j + d = s → wX_selfExchanged_18 post f_count (nI c) f_listed (nI n) (nI s) a_generator a_group a_table a_shape a_shapeCount a_ways (d + 1) (nI (xv_p n a t (fun s => se_p c s 6) j)) (nI j) := by
    intro d
    induction d with
    | zero =>
      intro j hj
      have hj : j = s := by omega
      subst hj
      rw [xv_all S]
      have e := xv_div hn h7 hK hV
      exact pk_le j j (fun _ => pk_le n 0 (fun h => absurd h (by omega)) (fun _ => ⟨nI_ne0 hn (by omega), by rw [e]; exact h⟩)) (fun h => absurd h (by omega))
    | succ d ih =>
      intro j hj
      exact pk_le s j (fun h => absurd h (by omega)) (fun _ => ⟨7, inner _ j _ (by omega) (ih (j + 1) (by omega)) 6 0 rfl⟩)
  exact ⟨s + 1, key s 0 (by omega)⟩
/-! single colourings -/
theorem xw_bad {post : Int32 → Prop} {c : Nat} {p : Int32} (hc : c ≤ 3) (h1 : ∀ x, x < c ^ 6 → p = nI x → post 0) (h2 : (∀ x, x < c ^ 6 → p ≠ nI x) → post 1) : wpX_bad post (f_count, nI c, f_listed, f_size, f_shapes, a_generator, a_group, a_table, a_shape, a_shapeCount, a_ways) p := by
  have h6 : c ^ 6 ≤ 3 ^ 6 := Nat.pow_le_pow_left hc 6
  refine br_c (fun hn => h2 (fun x hx e => ?_)) (fun hn => ?_)
  · subst e; exact nI_pos (by omega) hn
  · obtain ⟨x, hx, rfl⟩ := nI_of hn
    exact xw_power (n := 6) (by decide) (pk_lt x (c ^ 6) (fun hl => h1 x hl rfl) (fun hl => h2 (fun y hy e => by
      have := (nI_eq hx (by omega)).mp e
      omega)))
theorem xw_carried {post : Int32 → Prop} {c x g : Nat} (hc : 0 < c) (h3 : c ≤ 3) (hx : x < 2 ^ 31) (hg : g < 2 ^ 31) (h : post (nI (ac_a c g x))) : wpX_carried post (f_count, nI c, f_listed, f_size, f_shapes, a_generator, a_group, a_table, a_shape, a_shapeCount, a_ways) (nI x) (nI g) := by
  have key : ∀ d i, i + d = 6 → wX_carried_8 post (nI g) f_count (nI c) f_listed f_size f_shapes a_generator a_group a_table a_shape a_shapeCount a_ways (d + 1) (nI (x / c ^ i)) (nI (cs_s (fun i => ac_d c x i * c ^ pm_im g i) i)) (nI i) := by
    intro d
    induction d with
    | zero =>
      intro i hi
      have hi : i = 6 := by omega
      subst hi
      exact pk_le 6 6 (fun _ => h) (fun h => absurd h (by omega))
    | succ d ih =>
      intro i hi
      have b2 : x / c ^ i ≤ x := Nat.div_le_self _ _
      have hz : ¬ nI c = 0 := nI_ne0 hc (by omega)
      have h8 := pm_im8 g i
      have e1 : nI (cs_s (fun i => ac_d c x i * c ^ pm_im g i) i) + (nI (x / c ^ i) - nI (x / c ^ i) / nI c * nI c) * nI (c ^ pm_im g i) = nI (cs_s (fun i => ac_d c x i * c ^ pm_im g i) (i + 1)) := by
        rw [pk_rem (by omega) hc (by omega), pk_mul, nI_add]; rfl
      have e2 : nI (x / c ^ i) / nI c = nI (x / c ^ (i + 1)) := by
        rw [pk_div (by omega) hc (by omega), Nat.div_div_eq_div_mul, Nat.pow_succ]
      exact pk_le 6 i (fun h => absurd h (by omega)) (fun _ => xw_image hg (by omega) ⟨hz, xw_power (by omega) (nm_r e1 ⟨hz, nm_r e2 (nm_r (nI_1 i) (ih (i + 1) (by omega)))⟩)⟩)
  have k := key 6 0 rfl
  rw [Nat.pow_zero, Nat.div_one] at k
  exact ⟨7, k⟩
theorem xw_leastOf {post : Int32 → Prop} {c x : Nat} (hc : 0 < c) (h3 : c ≤ 3) (h7 : n ≤ 720) (hx : x < c ^ 6) (ha : ∀ k, k < n → pm_P (a k) ∧ a_group k = nI (a k)) (h : post (nI (bu_lo (fun k x => ac_a c (a k) x) x n))) : wpX_leastOf post (f_count, nI c, f_listed, nI n, f_shapes, a_generator, a_group, a_table, a_shape, a_shapeCount, a_ways) (nI x) := by
  have h6 : c ^ 6 ≤ 3 ^ 6 := Nat.pow_le_pow_left h3 6
  have key : ∀ d k, k + d = n → wX_leastOf_4 post (nI x) f_count (nI c) f_listed (nI n) f_shapes a_generator a_group a_table a_shape a_shapeCount a_ways (d + 1) (nI (bu_lo (fun k x => ac_a c (a k) x) x k)) (nI k) := by
    intro d
    induction d with
    | zero =>
      intro k hk
      have hk : k = n := by omega
      subst hk
      exact pk_le k k (fun _ => h) (fun h => absurd h (by omega))
    | succ d ih =>
      intro k hk
      have ec : (nI k).toNatClampNeg = k := nI_clamp (by omega)
      have hi := ih (k + 1) (by omega)
      have hak := ha k (by omega)
      have hl : ac_a c (a k) x < c ^ 6 := ac_lt hc hak.1
      have hb : bu_lo (fun k x => ac_a c (a k) x) x k ≤ x := bu_lo_self _ _ _
      rw [bu_lo1] at hi
      refine pk_le n k (fun h => absurd h (by omega)) (fun _ => ⟨pk_in k 720 (by omega), ?_⟩)
      rw [ec, hak.2]
      refine xw_carried hc h3 (by omega) (pm_31 hak.1) (pk_le (bu_lo (fun k x => ac_a c (a k) x) x k) (ac_a c (a k) x) (fun z => nm_r (nI_1 k) ?_) (fun z => nm_r (nI_1 k) ?_))
      · rw [if_neg (by omega)] at hi; exact hi
      · rw [if_pos (by omega)] at hi; exact hi
  exact ⟨n + 1, key n 0 (by omega)⟩
theorem xw_size {post : Int32 → SX → Prop} {c x K : Nat} (hc : 0 < c) (h3 : c ≤ 3) (hn : 0 < n) (h7 : n ≤ 720) (hx : x < c ^ 6) (ha : ∀ k, k < n → pm_P (a k) ∧ a_group k = nI (a k)) (hK : n = K * cs_c (fun k => ac_a c (a k) x == x) n) (h : post (nI K) (f_count, nI c, f_listed, nI n, f_shapes, a_generator, a_group, a_table, a_shape, a_shapeCount, a_ways)) : ∃ n19 : Nat, wX_size_19 post (nI x) f_count (nI c) f_listed (nI n) f_shapes a_generator a_group a_table a_shape a_shapeCount a_ways n19 0 0 := by
  have h6 : c ^ 6 ≤ 3 ^ 6 := Nat.pow_le_pow_left h3 6
  have hle : cs_c (fun k => ac_a c (a k) x == x) n ≤ n := cs_cle _ _
  have key : ∀ d k, k + d = n → wX_size_19 post (nI x) f_count (nI c) f_listed (nI n) f_shapes a_generator a_group a_table a_shape a_shapeCount a_ways (d + 1) (nI (cs_c (fun k => ac_a c (a k) x == x) k)) (nI k) := by
    intro d
    induction d with
    | zero =>
      intro k hk
      have hk : k = n := by omega
      subst hk
      have hz : 0 < cs_c (fun k => ac_a c (a k) x == x) k := by
        rcases Nat.eq_zero_or_pos (cs_c (fun k => ac_a c (a k) x == x) k) with z | z
        · rw [z, Nat.mul_zero] at hK; omega
        · exact z
      have e : nI k / nI (cs_c (fun k => ac_a c (a k) x == x) k) = nI K := by
        rw [pk_div (by omega) hz (by omega)]
        refine congrArg nI ?_
        generalize cs_c (fun k => ac_a c (a k) x == x) k = z at *
        rw [hK, Nat.mul_div_cancel _ hz]
      exact pk_le k k (fun _ => pk_le (cs_c (fun k => ac_a c (a k) x == x) k) 0 (fun h => absurd h (by omega)) (fun _ => ⟨nI_ne0 hz (by omega), by rw [e]; exact h⟩)) (fun h => absurd h (by omega))
    | succ d ih =>
      intro k hk
      have ec : (nI k).toNatClampNeg = k := nI_clamp (by omega)
      have hi := ih (k + 1) (by omega)
      have hak := ha k (by omega)
      have hl : ac_a c (a k) x < c ^ 6 := ac_lt hc hak.1
      rw [cs_c1] at hi
      refine pk_le n k (fun h => absurd h (by omega)) (fun _ => ⟨pk_in k 720 (by omega), ?_⟩)
      rw [ec, hak.2]
      refine xw_carried hc h3 (by omega) (pm_31 hak.1) (pk_eq (ac_a c (a k) x) x (fun z => nm_r (nI_1 _) (nm_r (nI_1 k) ?_)) (fun z => nm_r (nI_1 k) ?_))
      · rw [cs_beqt z] at hi; exact hi
      · rw [cs_beqf z] at hi; exact hi
  exact ⟨n + 1, key n 0 (by omega)⟩
end
end
section
/-! the ways to colour cycles with given numbers of places -/
def tk_I (c l : Nat) (W : Nat → Nat) (wy : Nat → Int32) (r : Nat) : Prop := ∀ k, k < 49 → wy k = nI (if k < r then W k else dp_t c l W k)
section
variable {f_count f_c f_listed f_size f_shapes : Int32} {a_generator a_group a_table a_shape a_shapeCount a_ways : Nat → Int32}
theorem xn_7 (m j : Nat) : (7 : Int32) * nI m + nI j = nI (7 * m + j) := by
  have e : (7 : Int32) * nI m = nI (7 * m) := pk_mul 7 m
  rw [e, nI_add]
theorem xw_t93 {post : SX → Prop} {J3 J10 : Int32 → (Nat → Int32) → (Nat → Int32) → (Nat → Int32) → (Nat → Int32) → (Nat → Int32) → (Nat → Int32) → Prop} {x1 : Int32} {m j : Nat} {x4 : Int32} (hk : 7 * m + j < 49) (h : J10 (nI j + (-1)) a_generator a_group a_table a_shape a_shapeCount (upd a_ways (7 * m + j) x4)) : wX_takeCycle_93 post J3 J10 x1 (nI m) (nI j) x4 f_count f_c f_listed f_size f_shapes a_generator a_group a_table a_shape a_shapeCount a_ways := by
  have ec : (nI (7 * m + j)).toNatClampNeg = 7 * m + j := nI_clamp (by omega)
  unfold wX_takeCycle_93
  rw [xn_7, ec]
  exact ⟨pk_in _ 49 hk, nm_e (nm_e h)⟩
theorem xw_t62 {post : SX → Prop} {J3 J10 : Int32 → (Nat → Int32) → (Nat → Int32) → (Nat → Int32) → (Nat → Int32) → (Nat → Int32) → (Nat → Int32) → Prop} {c l m j z : Nat} {W : Nat → Nat} (hc : c ≤ 3) (hl : l ≤ 6) (hm : m < 7) (hj : j < 7) (hw : ∀ k, k < 7 * m + j + 1 → a_ways k = nI (W k)) (h : J10 (nI j + (-1)) a_generator a_group a_table a_shape a_shapeCount (upd a_ways (7 * m + j) (nI (z + if 1 < c ∧ l ≤ j then W (7 * m + j - l) else 0)))) : wX_takeCycle_62 post J3 J10 (nI l) (nI m) (nI j) (nI z) f_count (nI c) f_listed f_size f_shapes a_generator a_group a_table a_shape a_shapeCount a_ways := by
  unfold wX_takeCycle_62
  refine pk_le c 1 (fun h0 => xw_t93 (by omega) ?_) (fun h0 => pk_lt j l (fun h1 => xw_t93 (by omega) ?_) (fun h1 => ?_))
  · rw [if_neg (by omega), Nat.add_zero] at h; exact h
  · rw [if_neg (by omega), Nat.add_zero] at h; exact h
  · have ec : (nI (7 * m + j - l)).toNatClampNeg = 7 * m + j - l := nI_clamp (by omega)
    rw [xn_7, pk_sub (by omega), ec, hw _ (by omega), nI_add]
    rw [if_pos (by omega)] at h
    exact ⟨pk_in (7 * m + j - l) 49 (by omega), nm_e (xw_t93 (by omega) h)⟩
theorem xw_t37 {post : SX → Prop} {J3 J10 : Int32 → (Nat → Int32) → (Nat → Int32) → (Nat → Int32) → (Nat → Int32) → (Nat → Int32) → (Nat → Int32) → Prop} {c l m j z : Nat} {W : Nat → Nat} (hc : c ≤ 3) (hl : l ≤ 6) (hm : m < 7) (hj : j < 7) (hw : ∀ k, k < 7 * m + j + 1 → a_ways k = nI (W k)) (h : J10 (nI j + (-1)) a_generator a_group a_table a_shape a_shapeCount (upd a_ways (7 * m + j) (nI (z + (if l ≤ m then W (7 * m + j - 7 * l) else 0) + if 1 < c ∧ l ≤ j then W (7 * m + j - l) else 0)))) : wX_takeCycle_37 post J3 J10 (nI l) (nI m) (nI j) (nI z) f_count (nI c) f_listed f_size f_shapes a_generator a_group a_table a_shape a_shapeCount a_ways := by
  unfold wX_takeCycle_37
  refine pk_lt m l (fun h1 => xw_t62 hc hl hm hj hw ?_) (fun h1 => ?_)
  · rw [if_neg (show ¬ l ≤ m by omega), Nat.add_zero] at h; exact h
  · have ec : (nI (7 * m + j - 7 * l)).toNatClampNeg = 7 * m + j - 7 * l := nI_clamp (by omega)
    have e1 : (7 : Int32) * (nI m - nI l) + nI j = nI (7 * m + j - 7 * l) := by
      rw [pk_sub h1, xn_7]; exact congrArg nI (by omega)
    rw [e1, ec, hw _ (by omega), nI_add]
    rw [if_pos h1] at h
    exact ⟨pk_in (7 * m + j - 7 * l) 49 (by omega), nm_e (xw_t62 hc hl hm hj hw h)⟩
theorem tk_put {c l m j : Nat} {W : Nat → Nat} {wy : Nat → Int32} (hm : m < 7) (hj : j < 7) (I : tk_I c l W wy (7 * m + (j + 1))) : tk_I c l W (upd wy (7 * m + j) (nI ((if c = 3 then W (7 * m + j) else 0) + (if l ≤ m then W (7 * m + j - 7 * l) else 0) + if 1 < c ∧ l ≤ j then W (7 * m + j - l) else 0))) (7 * m + j) := by
  intro k hk
  by_cases e : k = 7 * m + j
  · subst e
    rw [pk_us, if_neg (show ¬ 7 * m + j < 7 * m + j by omega)]
    unfold dp_t
    rw [show (7 * m + j) / 7 = m by omega, show (7 * m + j) % 7 = j by omega]
  · rw [pk_un e, I k hk]
    by_cases h : k < 7 * m + j
    · rw [if_pos h, if_pos (by omega)]
    · rw [if_neg h, if_neg (by omega)]
theorem xw_t10 {post : SX → Prop} {J3 : Int32 → (Nat → Int32) → (Nat → Int32) → (Nat → Int32) → (Nat → Int32) → (Nat → Int32) → (Nat → Int32) → Prop} {c l m : Nat} {W : Nat → Nat} (hc : c ≤ 3) (hl : l ≤ 6) (hm : m < 7) (hJ : ∀ wy, tk_I c l W wy (7 * m) → J3 (nI m + (-1)) a_generator a_group a_table a_shape a_shapeCount wy) : ∀ j, j ≤ 7 → ∀ wy, tk_I c l W wy (7 * m + j) → wX_takeCycle_10 post J3 (nI l) (nI m) f_count (nI c) f_listed f_size f_shapes (j + 1) (nI j + (-1)) a_generator a_group a_table a_shape a_shapeCount wy := by
  intro j
  induction j with
  | zero => intro _ wy I; exact xn_neg (nm_e (hJ wy I))
  | succ j ih =>
    intro hj wy I
    rw [pk_m1]
    have hw : ∀ k, k < 7 * m + j + 1 → wy k = nI (W k) := fun k hk => by
      rw [I k (by omega), if_pos (by omega)]
    have ec : (nI (7 * m + j)).toNatClampNeg = 7 * m + j := nI_clamp (by omega)
    have hn := ih (by omega) _ (tk_put hm (by omega) I)
    refine br_f (nI_pos (by omega)) (pk_eq c 3 (fun h3 => ?_) (fun h3 => ?_))
    · rw [xn_7, ec, hw _ (by omega)]
      rw [if_pos h3] at hn
      exact ⟨pk_in (7 * m + j) 49 (by omega), xw_t37 hc hl hm (by omega) hw hn⟩
    · rw [if_neg h3] at hn
      exact xw_t37 (z := 0) hc hl hm (by omega) hw hn
theorem xw_takeCycle {post : SX → Prop} {c l : Nat} {W : Nat → Nat} (hc : c ≤ 3) (hl : l ≤ 6) (hw : ∀ k, k < 49 → a_ways k = nI (W k)) (h : ∀ wy : Nat → Int32, (∀ k, k < 49 → wy k = nI (dp_t c l W k)) → post (f_count, nI c, f_listed, f_size, f_shapes, a_generator, a_group, a_table, a_shape, a_shapeCount, wy)) : wpX_takeCycle post (f_count, nI c, f_listed, f_size, f_shapes, a_generator, a_group, a_table, a_shape, a_shapeCount, a_ways) (nI l) := by
  have key : ∀ i, i ≤ 7 → ∀ wy, tk_I c l W wy (7 * i) → wX_takeCycle_3 post (nI l) f_count (nI c) f_listed f_size f_shapes (i + 1) (nI i + (-1)) a_generator a_group a_table a_shape a_shapeCount wy := by
    intro i
    induction i with
    | zero =>
      intro _ wy I
      exact xn_neg (h wy (fun k hk => by rw [I k hk, if_neg (by omega)]))
    | succ i ih =>
      intro hi wy I
      rw [pk_m1]
      exact br_f (nI_pos (by omega)) ⟨8, xw_t10 hc hl (by omega) (fun wy I => ih (by omega) wy I) 7 (by omega) wy I⟩
  exact ⟨8, key 7 (by omega) a_ways (fun k hk => by rw [hw k hk, if_pos (by omega)])⟩
theorem xw_leftWith {post : Int32 → SX → Prop} {c s p q : Nat} (hc : c ≤ 3) (hs : s ∈ kc_sl) (hp : p ≤ 6) (hq : q ≤ 6) (h : ∀ wy : Nat → Int32, post (nI (dp_w c s (7 * p + q))) (f_count, nI c, f_listed, f_size, f_shapes, a_generator, a_group, a_table, a_shape, a_shapeCount, wy)) : wpX_leftWith post (f_count, nI c, f_listed, f_size, f_shapes, a_generator, a_group, a_table, a_shape, a_shapeCount, a_ways) (nI s) (nI p) (nI q) := by
  have l55 : ∀ (J : Int32 → Int32 → Int32 → Int32 → Int32 → Int32 → (Nat → Int32) → (Nat → Int32) → (Nat → Int32) → (Nat → Int32) → (Nat → Int32) → (Nat → Int32) → Prop) (l : Nat) (W : Nat → Nat), l ≤ 6 → (∀ wy : Nat → Int32, (∀ k, k < 49 → wy k = nI (dp_r c l (sh_c s l) W k)) → J (nI (l + 1)) f_count (nI c) f_listed f_size f_shapes a_generator a_group a_table a_shape a_shapeCount wy) → ∀ d k, k + d = sh_c s l → ∀ wy : Nat → Int32, (∀ i, i < 49 → wy i = nI (dp_r c l k W i)) → wX_leftWith_55 post J (nI s) (nI p) (nI q) (nI l) (nI (sh_c s l)) (d + 1) (nI k) f_count (nI c) f_listed f_size f_shapes a_generator a_group a_table a_shape a_shapeCount wy := by
    intro J l W hl hJ d
    have h6 := (kf_sl hs).2.2 l (by omega)
    induction d with
    | zero =>
      intro k hk wy I
      have hk : k = sh_c s l := by omega
      subst hk
      exact pk_le (sh_c s l) (sh_c s l) (fun _ => nm_r (nI_1 l) (hJ wy I)) (fun h => absurd h (by omega))
    | succ d ih =>
      intro k hk wy I
      exact pk_le (sh_c s l) k (fun h => absurd h (by omega)) (fun _ => xw_takeCycle hc hl I (fun wy' I' => nm_r (nI_1 k) (ih (k + 1) (by omega) wy' I')))
  have l36 : ∀ d l, l + d = 6 → ∀ wy : Nat → Int32, (∀ k, k < 49 → wy k = nI (dp_s c s l k)) → wX_leftWith_36 post (nI s) (nI p) (nI q) (d + 1) (nI (l + 1)) f_count (nI c) f_listed f_size f_shapes a_generator a_group a_table a_shape a_shapeCount wy := by
    intro d
    induction d with
    | zero =>
      intro l hl wy I
      have hl : l = 6 := by omega
      subst hl
      have ec : (nI (7 * p + q)).toNatClampNeg = 7 * p + q := nI_clamp (by omega)
      refine pk_lt 6 7 (fun _ => ?_) (fun h => absurd h (by omega))
      rw [xn_7, ec, I _ (by omega)]
      exact ⟨pk_in (7 * p + q) 49 (by omega), h wy⟩
    | succ d ih =>
      intro l hl wy I
      exact pk_lt 6 (l + 1) (fun h => absurd h (by omega)) (fun _ => xw_cyclesOf (xs_31 hs) (by omega) (by omega) ⟨_, l55 _ (l + 1) (dp_s c s l) (by omega) (fun wy' I' => ih (l + 1) (by omega) wy' I') (sh_c s (l + 1)) 0 (by omega) wy I⟩)
  have l3 : ∀ d i, i + d = 49 → ∀ wy : Nat → Int32, (∀ k, k < i → wy k = nI (dp_0 k)) → wX_leftWith_3 post (nI s) (nI p) (nI q) f_count (nI c) f_listed f_size f_shapes (d + 1) (nI i) a_generator a_group a_table a_shape a_shapeCount wy := by
    intro d
    induction d with
    | zero =>
      intro i hi wy I
      have hi : i = 49 := by omega
      subst hi
      exact pk_le 49 49 (fun _ => ⟨7, l36 6 0 rfl wy I⟩) (fun h => absurd h (by omega))
    | succ d ih =>
      intro i hi wy I
      have ec : (nI i).toNatClampNeg = i := nI_clamp (by omega)
      have hn : ∀ v : Int32, v = nI (dp_0 i) → ∀ k, k < i + 1 → upd wy i v k = nI (dp_0 k) := fun v hv k hk => by
        by_cases e : k = i
        · subst e; rw [pk_us]; exact hv
        · rw [pk_un e]; exact I k (by omega)
      refine pk_le 49 i (fun h => absurd h (by omega)) (fun _ => pk_eq i 0 (fun z => ⟨pk_in i 49 (by omega), nm_r (by rw [ec]) (nm_r (nI_1 i) (ih (i + 1) (by omega) _ (hn 1 ?_)))⟩) (fun z => ⟨pk_in i 49 (by omega), nm_r (by rw [ec]) (nm_r (nI_1 i) (ih (i + 1) (by omega) _ (hn 0 ?_)))⟩))
      · rw [dp_0, if_pos z]; rfl
      · rw [dp_0, if_neg z]; rfl
  exact ⟨50, l3 49 0 rfl a_ways (fun k hk => by omega)⟩
theorem xw_kindsWith {post : Int32 → SX → Prop} {n s c p q K : Nat} {a t : Nat → Nat} (hc : c ≤ 3) (hn : 0 < n) (h7 : n ≤ 720) (S : xs_S n a s t a_shape a_shapeCount) (hp : p ≤ 6) (hq : q ≤ 6) (hK : K ≤ 100000) (hV : cs_s (fun k => dp_w c (sh_e (a k)) (7 * p + q)) n = n * K) (h : ∀ wy : Nat → Int32, post (nI K) (f_count, nI c, f_listed, nI n, nI s, a_generator, a_group, a_table, a_shape, a_shapeCount, wy)) : ∃ n39 : Nat, wX_kindsWith_39 post (nI p) (nI q) n39 0 0 f_count (nI c) f_listed (nI n) (nI s) a_generator a_group a_table a_shape a_shapeCount a_ways := by
  have h11 := xs_11 (fun j hj => (S.1 j hj).1) S.2.1
  have key : ∀ d j, j + d = s → ∀ wy : Nat → Int32, wX_kindsWith_39 post (nI p) (nI q) (d + 1) (nI (xv_p n a t (fun s => dp_w c s (7 * p + q)) j)) (nI j) f_count (nI c) f_listed (nI n) (nI s) a_generator a_group a_table a_shape a_shapeCount wy := by
    intro d
    induction d with
    | zero =>
      intro j hj wy
      have hj : j = s := by omega
      subst hj
      rw [xv_all S]
      have e := xv_div hn h7 hK hV
      exact pk_le j j (fun _ => pk_le n 0 (fun h => absurd h (by omega)) (fun _ => ⟨nI_ne0 hn (by omega), by rw [e]; exact h wy⟩)) (fun h => absurd h (by omega))
    | succ d ih =>
      intro j hj wy
      have ec : (nI j).toNatClampNeg = j := nI_clamp (by omega)
      have hs := S.1 j (by omega)
      refine pk_le s j (fun h => absurd h (by omega)) (fun _ => ⟨pk_in j 12 (by omega), ?_⟩)
      rw [ec, hs.2.1]
      refine xw_leftWith hc hs.1 hp hq (fun wy' => ⟨pk_in j 12 (by omega), ?_⟩)
      rw [hs.2.2]
      have hi := ih (j + 1) (by omega) wy'
      rw [xv_1] at hi
      exact nm_r (by rw [pk_mul, nI_add]) (nm_r (nI_1 j) hi)
  exact ⟨s + 1, key s 0 (by omega) a_ways⟩
end
end
section
/-! the reference: digits, rearrangements, its own listing -/
section
variable {f_many f_colours f_size : Int32} {a_carries a_codes a_names a_waiting a_group a_listed : Nat → Int32}
theorem yw_digit {post : Int32 → Prop} {u : SY} {x b i : Nat} (hx : x < 2 ^ 31) (hb : 0 < b) (hb2 : b < 2 ^ 31) (hi : i < 2 ^ 31) (h : post (nI (ac_d b x i))) : wpY_digit post u (nI x) (nI b) (nI i) := by
  obtain ⟨f_many, f_colours, f_size, a_carries, a_codes, a_names, a_waiting, a_group, a_listed⟩ := u
  have hz : ¬ nI b = 0 := nI_ne0 hb hb2
  have key : ∀ d k, k + d = i → wY_digit_6 post (nI b) (nI i) f_many f_colours f_size a_carries a_codes a_names a_waiting a_group a_listed (d + 1) (nI (x / b ^ k)) (nI k) := by
    intro d
    induction d with
    | zero =>
      intro k hk
      have hk : k = i := by omega
      subst hk
      have b2 : x / b ^ k ≤ x := Nat.div_le_self _ _
      have e1 : nI (x / b ^ k) - nI (x / b ^ k) / nI b * nI b = nI (ac_d b x k) := pk_rem (by omega) hb hb2
      exact pk_le k k (fun _ => ⟨hz, by rw [e1]; exact h⟩) (fun h => absurd h (by omega))
    | succ d ih =>
      intro k hk
      have b2 : x / b ^ k ≤ x := Nat.div_le_self _ _
      have e2 : nI (x / b ^ k) / nI b = nI (x / b ^ (k + 1)) := by
        rw [pk_div (by omega) hb hb2, Nat.div_div_eq_div_mul, Nat.pow_succ]
      exact pk_le i k (fun h => absurd h (by omega)) (fun _ => ⟨hz, nm_r e2 (nm_r (nI_1 k) (ih (k + 1) (by omega)))⟩)
  have k := key i 0 (by omega)
  rw [Nat.pow_zero, Nat.div_one] at k
  exact ⟨i + 1, k⟩
theorem yw_isR {post : Int32 → Prop} {u : SY} {p : Int32} (h1 : ∀ g, g < 46656 → p = nI g → in_s g 6 = 63 → post 1) (h2 : (∀ g, g < 46656 → p = nI g → in_s g 6 ≠ 63) → post 0) : wpY_isRearrangement post u p := by
  obtain ⟨f_many, f_colours, f_size, a_carries, a_codes, a_names, a_waiting, a_group, a_listed⟩ := u
  by_cases hn : p < 0
  · have hn0 : ¬ 0 ≤ p := fun z => by
      rw [Int32.le_iff_toInt_le] at z
      rw [Int32.lt_iff_toInt_lt] at hn
      omega
    have hb : ¬ (46656 : Int32) ≤ p := fun z => hn0 (Int32.le_trans (by decide) z)
    have h0 : post 0 := h2 (fun g hg e => by rw [e] at hn; exact absurd hn (nI_pos (by omega)))
    have key : ∀ d i, i + d = 6 → wY_isRearrangement_4 post p f_many f_colours f_size a_carries a_codes a_names a_waiting a_group a_listed (d + 1) 0 (nI i) := by
      intro d
      induction d with
      | zero =>
        intro i hi
        have hi : i = 6 := by omega
        subst hi
        exact pk_le 6 6 (fun _ => br_f hb (br_f (by decide) h0)) (fun h => absurd h (by omega))
      | succ d ih =>
        intro i hi
        exact pk_le 6 i (fun h => absurd h (by omega)) (fun _ => br_f hn0 (nm_r (nI_1 i) (ih (i + 1) (by omega))))
    exact ⟨7, key 6 0 rfl⟩
  · obtain ⟨g, hg, rfl⟩ := nI_of hn
    have key : ∀ d i, i + d = 6 → wY_isRearrangement_4 post (nI g) f_many f_colours f_size a_carries a_codes a_names a_waiting a_group a_listed (d + 1) (nI (in_s g i)) (nI i) := by
      intro d
      induction d with
      | zero =>
        intro i hi
        have hi : i = 6 := by omega
        subst hi
        have b1 := in_lt g 6
        refine pk_le 6 6 (fun _ => pk_le 46656 g (fun h => h2 (fun g' hg' e => ?_)) (fun h => pk_eq (in_s g 6) 63 (fun a => h1 g h rfl a) (fun a => h2 (fun g' hg' e => ?_)))) (fun h => absurd h (by omega))
        · have := (nI_eq hg (by omega)).mp e
          omega
        · have := (nI_eq hg (by omega)).mp e
          subst this
          exact a
      | succ d ih =>
        intro i hi
        have d6 : ac_d 6 g i < 6 := ac_dlt (by decide)
        have e3 : nI (in_s g i) ||| ((1 : Int32) <<< (nI (ac_d 6 g i) &&& 31)) = nI (in_s g (i + 1)) := by rw [xn_sl (by omega), xn_or, in_s1]
        exact pk_le 6 i (fun h => absurd h (by omega)) (fun _ => br_t (nI_pos' hg) (yw_digit (b := 6) hg (by decide) (by decide) (by omega) (nm_r e3 (nm_r (nI_1 i) (ih (i + 1) (by omega))))))
    exact ⟨7, key 6 0 rfl⟩
theorem xn_6 (m j : Nat) : (6 : Int32) * nI m + nI j = nI (6 * m + j) := by
  have e : (6 : Int32) * nI m = nI (6 * m) := pk_mul 6 m
  rw [e, nI_add]
theorem yw_add23 {post : Int32 → SY → Prop} {m g : Nat} (hm : m < 3) (hg : g < 2 ^ 31) (h : ∀ cr : Nat → Int32, (∀ i, i < 6 → cr (6 * m + i) = nI (ac_d 6 g i)) → (∀ j, j < 6 * m → cr j = a_carries j) → post (nI (m + 1)) (nI (m + 1), f_colours, f_size, cr, upd a_codes m (nI g), a_names, a_waiting, a_group, a_listed)) : ∃ n23 : Nat, wY_add_23 post (nI g) (nI m) f_colours f_size n23 0 a_carries a_codes a_names a_waiting a_group a_listed := by
  have key : ∀ d i, i + d = 6 → ∀ cr : Nat → Int32, (∀ k, k < i → cr (6 * m + k) = nI (ac_d 6 g k)) → (∀ j, j < 6 * m → cr j = a_carries j) → wY_add_23 post (nI g) (nI m) f_colours f_size (d + 1) (nI i) cr a_codes a_names a_waiting a_group a_listed := by
    intro d
    induction d with
    | zero =>
      intro i hi cr c1 c2
      have hi : i = 6 := by omega
      subst hi
      have ec : (nI m).toNatClampNeg = m := nI_clamp (by omega)
      exact pk_le 6 6 (fun _ => ⟨pk_in m 3 hm, nm_r (by rw [ec]) (nm_r (nI_1 m) (h cr c1 c2))⟩) (fun h => absurd h (by omega))
    | succ d ih =>
      intro i hi cr c1 c2
      have ec : (nI (6 * m + i)).toNatClampNeg = 6 * m + i := nI_clamp (by omega)
      refine pk_le 6 i (fun h => absurd h (by omega)) (fun _ => yw_digit (b := 6) hg (by decide) (by decide) (by omega) ?_)
      rw [xn_6, ec]
      refine ⟨pk_in (6 * m + i) 18 (by omega), nm_e (nm_r (nI_1 i) (ih (i + 1) (by omega) _ (fun k hk => ?_) (fun j hj => ?_)))⟩
      · by_cases e : k = i
        · subst e; exact pk_us
        · rw [pk_un (by omega)]; exact c1 k (by omega)
      · rw [pk_un (by omega)]; exact c2 j hj
  exact ⟨7, key 6 0 rfl a_carries (fun k hk => by omega) (fun j _ => rfl)⟩
theorem pl_1 (g n : Nat) : pl_n g (n + 1) = pl_n g n * (6 - n) + cs_c (fun t => Nat.blt (ac_d 6 g (n + 1 + t)) (ac_d 6 g n)) (5 - n) := rfl
theorem yw_place {post : Int32 → Prop} {u : SY} {g : Nat} (hg : g < 2 ^ 31) (h : post (nI (pl_n g 6))) : wpY_place post u (nI g) := by
  obtain ⟨f_many, f_colours, f_size, a_carries, a_codes, a_names, a_waiting, a_group, a_listed⟩ := u
  have inner : ∀ (J : Int32 → Int32 → Prop) (i X : Nat), i < 6 → J (nI (X * (6 - i) + cs_c (fun t => Nat.blt (ac_d 6 g (i + 1 + t)) (ac_d 6 g i)) (5 - i))) (nI (i + 1)) → ∀ d k, k + d = 5 - i → wY_place_18 post J (nI g) (nI X) (nI i) f_many f_colours f_size a_carries a_codes a_names a_waiting a_group a_listed (d + 1) (nI (cs_c (fun t => Nat.blt (ac_d 6 g (i + 1 + t)) (ac_d 6 g i)) k)) (nI (i + 1 + k)) := by
    intro J i X hi hJ d
    induction d with
    | zero =>
      intro k hk
      have hk : k = 5 - i := by omega
      subst hk
      have e1 : nI X * (6 - nI i) + nI (cs_c (fun t => Nat.blt (ac_d 6 g (i + 1 + t)) (ac_d 6 g i)) (5 - i)) = nI (X * (6 - i) + cs_c (fun t => Nat.blt (ac_d 6 g (i + 1 + t)) (ac_d 6 g i)) (5 - i)) := by
        have e2 : (6 : Int32) - nI i = nI (6 - i) := pk_sub (a := 6) (by omega)
        rw [e2, pk_mul, nI_add]
      exact pk_le 6 (i + 1 + (5 - i)) (fun _ => nm_r e1 (nm_r (nI_1 i) hJ)) (fun h => absurd h (by omega))
    | succ d ih =>
      intro k hk
      have d1 : ac_d 6 g (i + 1 + k) < 6 := ac_dlt (by decide)
      have d2 : ac_d 6 g i < 6 := ac_dlt (by decide)
      have hi2 := ih (k + 1) (by omega)
      rw [cs_c1] at hi2
      refine pk_le 6 (i + 1 + k) (fun h => absurd h (by omega)) (fun _ => yw_digit (b := 6) hg (by decide) (by decide) (by omega) (yw_digit (b := 6) hg (by decide) (by decide) (by omega) (pk_le (ac_d 6 g i) (ac_d 6 g (i + 1 + k)) (fun z => nm_r (nI_1 (i + 1 + k)) ?_) (fun z => nm_r (nI_1 _) (nm_r (nI_1 (i + 1 + k)) ?_)))))
      · have e : Nat.blt (ac_d 6 g (i + 1 + k)) (ac_d 6 g i) = false := by rw [← Bool.not_eq_true, Nat.blt_eq]; omega
        rw [e] at hi2
        exact hi2
      · have e : Nat.blt (ac_d 6 g (i + 1 + k)) (ac_d 6 g i) = true := by rw [Nat.blt_eq]; exact z
        rw [e] at hi2
        exact hi2
  have key : ∀ d i, i + d = 6 → wY_place_4 post (nI g) f_many f_colours f_size a_carries a_codes a_names a_waiting a_group a_listed (d + 1) (nI (pl_n g i)) (nI i) := by
    intro d
    induction d with
    | zero =>
      intro i hi
      have hi : i = 6 := by omega
      subst hi
      exact pk_le 6 6 (fun _ => h) (fun h => absurd h (by omega))
    | succ d ih =>
      intro i hi
      exact pk_le 6 i (fun h => absurd h (by omega)) (fun _ => nm_r (nI_1 i) ⟨5 - i + 1, inner _ i _ (by omega) (ih (i + 1) (by omega)) (5 - i) 0 (by omega)⟩)
  exact ⟨7, key 6 0 rfl⟩
theorem pm_sxc {f g : Nat → Nat} (h : ∀ i, i < 6 → f i = g i) : pm_sx f = pm_sx g := by
  unfold pm_sx
  rw [h 0 (by decide), h 1 (by decide), h 2 (by decide), h 3 (by decide), h 4 (by decide), h 5 (by decide)]
theorem yw_followed {post : Int32 → Prop} {e f i : Nat} (he : pm_P e) (hi : i < 3) (hf : ∀ j, j < 6 → a_carries (6 * i + j) = nI (pm_im f j)) (h : post (nI (pm_s (pm_cmp e f)))) : wpY_followed post (f_many, f_colours, f_size, a_carries, a_codes, a_names, a_waiting, a_group, a_listed) (nI (pm_s e)) (nI i) := by
  have hlt := pm_slt he
  have key : ∀ k, k ≤ 6 → ∀ s, post (nI (hz_n 6 (fun k => pm_im f (ac_d 6 (pm_s e) k)) k s)) → wY_followed_5 post (nI (pm_s e)) (nI i) f_many f_colours f_size a_carries a_codes a_names a_waiting a_group a_listed (k + 1) (nI s) (nI k + (-1)) := by
    intro k
    induction k with
    | zero => intro _ s hp; exact xn_neg hp
    | succ k ih =>
      intro hk s hp
      rw [pk_m1]
      have d6 : ac_d 6 (pm_s e) k < 6 := ac_dlt (by decide)
      have ec : (nI (6 * i + ac_d 6 (pm_s e) k)).toNatClampNeg = 6 * i + ac_d 6 (pm_s e) k := nI_clamp (by omega)
      refine br_f (nI_pos (by omega)) (yw_digit (b := 6) (by omega) (by decide) (by decide) (by omega) ?_)
      rw [xn_6, ec, hf _ d6, xn_6]
      refine ⟨pk_in (6 * i + ac_d 6 (pm_s e) k) 18 (by omega), nm_r (congrArg nI ?_) (nm_e (ih (by omega) _ hp))⟩
      rw [Nat.mul_comm]
  have k := key 6 (by omega) 0 (by
    rw [hz_6, ← pm_sxs, pm_sxc (g := pm_im (pm_cmp e f)) (fun i hi => by rw [pm_sd he i hi, pm_cmpi hi])]
    exact h)
  exact ⟨7, k⟩
/-- marks by the number in the dictionary -/
def yl_T (n : Nat) (a : Nat → Nat) (ls : Nat → Int32) : Prop := ∀ r, r < 720 → (ls r = 0 ∧ ∀ k, k < n → pl_n (pm_s (a k)) 6 ≠ r) ∨ (ls r ≠ 0 ∧ ∃ k, k < n ∧ pl_n (pm_s (a k)) 6 = r)
theorem yn_b1 : vp_nar .boolean 1 ≠ 0 := by decide
theorem yn_b0 : vp_nar .boolean 0 = 0 := by decide
theorem yw_list {post : SY → Prop} {n g : Nat} {a : Nat → Nat} (hn : n ≤ 720) (hg : pm_P g) (ha : ∀ k, k < n → pm_P (a k)) (T : yl_T n a a_listed) (h1 : (∃ k, k < n ∧ a k = g) → post (f_many, f_colours, nI n, a_carries, a_codes, a_names, a_waiting, a_group, a_listed)) (h2 : (∀ k, k < n → a k ≠ g) → n < 720 ∧ ∀ ls, yl_T (n + 1) (en_x a n g) ls → post (f_many, f_colours, nI (n + 1), a_carries, a_codes, a_names, a_waiting, upd a_group n (nI (pm_s g)), ls)) : wpY_list post (f_many, f_colours, nI n, a_carries, a_codes, a_names, a_waiting, a_group, a_listed) (nI (pm_s g)) := by
  have hlt := pm_slt hg
  have hr := kf_pl hg
  unfold wpY_list
  dsimp only
  refine yw_place (g := pm_s g) (by omega) ?_
  have ec : (nI (pl_n (pm_s g) 6)).toNatClampNeg = pl_n (pm_s g) 6 := nI_clamp (by omega)
  rw [ec]
  refine ⟨pk_in _ 720 hr, br_c (fun z => ?_) (fun z => ?_)⟩
  · have hno : ∀ k, k < n → a k ≠ g := fun k hk e => by
      rcases T _ hr with ⟨_, h⟩ | ⟨h, _⟩
      · exact h k hk (by rw [e])
      · exact h z
    obtain ⟨hlt, hp⟩ := h2 hno
    have en : (nI n).toNatClampNeg = n := nI_clamp (by omega)
    refine ⟨pk_in _ 720 hr, nm_e ⟨pk_in n 720 hlt, nm_r (by rw [en]) (nm_r (nI_1 n) (hp _ ?_))⟩⟩
    intro r hr'
    by_cases e : r = pl_n (pm_s g) 6
    · subst e
      rw [pk_us]
      exact Or.inr ⟨yn_b1, n, by omega, by rw [en_xn]⟩
    · rw [pk_un e]
      rcases T r hr' with ⟨h, h'⟩ | ⟨h, k, hk, e'⟩
      · refine Or.inl ⟨h, fun k hk => ?_⟩
        by_cases c : k = n
        · subst c; rw [en_xn]; exact fun z => e z.symm
        · rw [en_xo (by omega)]; exact h' k (by omega)
      · exact Or.inr ⟨h, k, by omega, by rw [en_xo hk]; exact e'⟩
  · rcases T _ hr with ⟨h, _⟩ | ⟨_, k, hk, e⟩
    · exact absurd h z
    · exact h1 ⟨k, hk, kf_plinj (ha k hk) hg e⟩
def yr_R (n : Nat) (a : Nat → Nat) (gp ls : Nat → Int32) : Prop := (∀ k, k < n → gp k = nI (pm_s (a k))) ∧ yl_T n a ls
theorem yr_put {n g : Nat} {a : Nat → Nat} {gp : Nat → Int32} (h : ∀ k, k < n → gp k = nI (pm_s (a k))) : ∀ k, k < n + 1 → upd gp n (nI (pm_s g)) k = nI (pm_s (en_x a n g k)) := fun k hk => by
  by_cases c : k = n
  · subst c; rw [pk_us, en_xn]
  · rw [pk_un c, en_xo (by omega)]; exact h k (by omega)
variable {m : Nat} {e : Nat → Nat}
theorem yw_l45 {post : SY → Prop} {J : Int32 → Int32 → Int32 → Int32 → (Nat → Int32) → (Nat → Int32) → (Nat → Int32) → (Nat → Int32) → (Nat → Int32) → (Nat → Int32) → Prop} {got : Nat} (hm : m ≤ 3) (he : ∀ i, i < m → ∀ j, j < 6 → a_carries (6 * i + j) = nI (pm_im (e i) j)) (hJ : ∀ n a gp ls, bf_B m e n a (got + 1) 0 → yr_R n a gp ls → got < n → J (nI (got + 1)) (nI m) f_colours (nI n) a_carries a_codes a_names a_waiting gp ls) : ∀ d q, q + d = m → ∀ n a gp ls, bf_B m e n a got q → yr_R n a gp ls → got < n → wY_listGroup_45 post J (nI got) (d + 1) (nI q) (nI m) f_colours (nI n) a_carries a_codes a_names a_waiting gp ls := by
  intro d
  induction d with
  | zero =>
    intro q hq n a gp ls B R hg
    have hq : q = m := by omega
    subst hq
    exact pk_le q q (fun _ => nm_r (nI_1 got) (hJ n a gp ls (bf_next B) R hg)) (fun h => absurd h (by omega))
  | succ d ih =>
    intro q hq n a gp ls B R hg
    have hn := bf_720 B
    have ec : (nI got).toNatClampNeg = got := nI_clamp (by omega)
    refine pk_le m q (fun h => absurd h (by omega)) (fun _ => ⟨pk_in got 720 (by omega), ?_⟩)
    rw [ec, R.1 got hg]
    refine yw_followed (B.2.1 got hg) (by omega) (he q (by omega)) ?_
    refine yw_list (a := a) hn (pm_cmpP (B.2.1 got hg) (B.1 q (by omega))) B.2.1 R.2 (fun h => ?_) (fun h => ?_)
    · exact nm_r (nI_1 q) (ih (q + 1) (by omega) n a gp ls (bf_old B h) R hg)
    · have B' := bf_new B hg (by omega) h
      have hn' := bf_720 B'
      refine ⟨by omega, fun ls' T => ?_⟩
      exact nm_r (nI_1 q) (ih (q + 1) (by omega) (n + 1) _ _ ls' B' ⟨yr_put R.1, T⟩ (by omega))
theorem yw_l35 {post : SY → Prop} (hm : m ≤ 3) (he : ∀ i, i < m → ∀ j, j < 6 → a_carries (6 * i + j) = nI (pm_im (e i) j)) (hp : ∀ n a gp ls, gr_G m e n a → (∀ k, k < n → gp k = nI (pm_s (a k))) → post (nI m, f_colours, nI n, a_carries, a_codes, a_names, a_waiting, gp, ls)) : ∀ d got, got + d = 720 → ∀ n a gp ls, bf_B m e n a got 0 → yr_R n a gp ls → got ≤ n → wY_listGroup_35 post (d + 1) (nI got) (nI m) f_colours (nI n) a_carries a_codes a_names a_waiting gp ls := by
  intro d
  induction d with
  | zero =>
    intro got hg n a gp ls B R hle
    have hn := bf_720 B
    have e1 : got = n := by omega
    subst e1
    exact pk_le got got (fun _ => hp got a gp ls (bf_end B) R.1) (fun h => absurd h (by omega))
  | succ d ih =>
    intro got hg n a gp ls B R hle
    have hn := bf_720 B
    refine pk_le n got (fun h => ?_) (fun h => ?_)
    · have e1 : got = n := by omega
      subst e1
      exact hp got a gp ls (bf_end B) R.1
    · exact ⟨m + 1, yw_l45 hm he (fun n a gp ls B R h => ih (got + 1) (by omega) n a gp ls B R (by omega)) m 0 (by omega) n a gp ls B R h⟩
theorem yw_listGroup {post : SY → Prop} (hm : m ≤ 3) (hP : ∀ i, i < m → pm_P (e i)) (he : ∀ i, i < m → ∀ j, j < 6 → a_carries (6 * i + j) = nI (pm_im (e i) j)) (hp : ∀ n a gp ls, gr_G m e n a → (∀ k, k < n → gp k = nI (pm_s (a k))) → post (nI m, f_colours, nI n, a_carries, a_codes, a_names, a_waiting, gp, ls)) : wpY_listGroup post (nI m, f_colours, f_size, a_carries, a_codes, a_names, a_waiting, a_group, a_listed) := by
  have key : ∀ d i, i + d = 720 → ∀ ls : Nat → Int32, (∀ s, s < i → ls s = 0) → wY_listGroup_2 post (nI m) f_colours f_size (d + 1) (nI i) a_carries a_codes a_names a_waiting a_group ls := by
    intro d
    induction d with
    | zero =>
      intro i hi ls ht
      have hi : i = 720 := by omega
      subst hi
      refine pk_le 720 720 (fun _ => ?_) (fun h => absurd h (by omega))
      refine yw_list (n := 0) (g := 181896) (a := fun _ => 0) (by omega) pm_idP (fun k hk => by omega) (fun r hr => Or.inl ⟨ht r hr, fun k hk => by omega⟩) (fun h => ?_) (fun _ => ?_)
      · obtain ⟨k, hk, _⟩ := h
        omega
      · refine ⟨by omega, fun ls' T => ⟨721, ?_⟩⟩
        exact yw_l35 hm he hp 720 0 rfl 1 _ _ ls' (bf_0 hP _) ⟨yr_put (fun k hk => by omega), T⟩ (by omega)
    | succ d ih =>
      intro i hi ls ht
      have ec : (nI i).toNatClampNeg = i := nI_clamp (by omega)
      refine pk_le 720 i (fun h => absurd h (by omega)) (fun _ => ⟨pk_in i 720 (by omega), nm_r (by rw [ec, yn_b0]) (nm_r (nI_1 i) (ih (i + 1) (by omega) _ ?_))⟩)
      intro s hs
      by_cases c : s = i
      · subst c; exact pk_us
      · rw [pk_un c]; exact ht s (by omega)
  exact ⟨721, key 720 0 rfl a_listed (fun s hs => by omega)⟩
/-! cycles -/
theorem cy_lt {g : Nat} : ∀ f s w s', cy_in g f s w = some s' → s < 2 ^ 8 → w < 8 → s' < 2 ^ 8 := by
  intro f
  induction f with
  | zero => intro s w s' h; exact absurd h (by unfold cy_in; exact fun z => nomatch z)
  | succ f ih =>
    intro s w s' h hs hw
    unfold cy_in at h
    split at h
    · exact ih _ _ _ h (Nat.or_lt_two_pow hs (Nat.pow_lt_pow_right (by decide) hw)) (Nat.lt_trans (ac_dlt (by decide)) (by decide))
    · cases h; exact hs
theorem yw_c35 {post : Int32 → Prop} {J : Int32 → Int32 → Int32 → Prop} {g i : Nat} {x3 : Int32} (hg : g < 2 ^ 31) : ∀ f s w s', cy_in g f s w = some s' → s < 2 ^ 8 → w < 8 → J (nI s') x3 (nI (i + 1)) → wY_cycles_35 post J (nI g) x3 (nI i) f_many f_colours f_size a_carries a_codes a_names a_waiting a_group a_listed f (nI s) (nI w) := by
  intro f
  induction f with
  | zero => intro s w s' h; exact absurd h (by unfold cy_in; exact fun z => nomatch z)
  | succ f ih =>
    intro s w s' h hs hw hJ
    unfold cy_in at h
    refine ek_if (xn_bit0 (by omega) (by omega)) (fun hb => ?_) (fun hb => ?_)
    · rw [if_pos hb] at h
      have e1 : nI s ||| ((1 : Int32) <<< (nI w &&& 31)) = nI (s ||| 2 ^ w) := by rw [xn_sl (by omega), xn_or]
      exact nm_r e1 (yw_digit (b := 6) hg (by decide) (by decide) (by omega) (ih _ _ _ h (Nat.or_lt_two_pow hs (Nat.pow_lt_pow_right (by decide) hw)) (Nat.lt_trans (ac_dlt (by decide)) (by decide)) hJ))
    · rw [if_neg hb] at h
      cases h
      exact nm_r (nI_1 i) hJ
theorem yw_cycles {post : Int32 → Prop} {u : SY} {g v : Nat} (hg : g < 2 ^ 31) (hv : cy_g g = some v) (h : post (nI v)) : wpY_cycles post u (nI g) := by
  obtain ⟨f_many, f_colours, f_size, a_carries, a_codes, a_names, a_waiting, a_group, a_listed⟩ := u
  have key : ∀ d i, i + d = 6 → ∀ s n, s < 2 ^ 8 → cy_out g d s n i = some v → wY_cycles_7 post (nI g) f_many f_colours f_size a_carries a_codes a_names a_waiting a_group a_listed (d + 1) (nI s) (nI n) (nI i) := by
    intro d
    induction d with
    | zero =>
      intro i hi s n hs hc
      have hi : i = 6 := by omega
      subst hi
      unfold cy_out at hc
      cases hc
      exact pk_le 6 6 (fun _ => h) (fun h => absurd h (by omega))
    | succ d ih =>
      intro i hi s n hs hc
      unfold cy_out at hc
      split at hc
      · exact nomatch hc
      · rename_i t ht
        have hl := cy_lt _ _ _ _ ht hs (by omega)
        have hn := ih (i + 1) (by omega) _ _ hl hc
        refine pk_le 6 i (fun h => absurd h (by omega)) (fun _ => ek_if (xn_bit0 (by omega) (by omega)) (fun hb => ?_) (fun hb => ?_))
        · rw [cy_nx, if_pos hb] at hn
          exact nm_r (nI_1 n) ⟨8, yw_c35 hg 8 s i t ht hs (by omega) hn⟩
        · rw [cy_nx, if_neg hb] at hn
          exact ⟨8, yw_c35 hg 8 s i t ht hs (by omega) hn⟩
  exact ⟨7, key 6 0 rfl 0 0 (by decide) hv⟩
theorem yw_withCycles {post : Int32 → SY → Prop} {v : Int32} {n : Nat} {a : Nat → Nat} (h7 : n ≤ 720) (ha : ∀ k, k < n → pm_P (a k) ∧ a_group k = nI (pm_s (a k))) (h : post (nI (cs_c (fun k => decide (nI (sh_a (sh_e (a k))) = v)) n)) (f_many, f_colours, nI n, a_carries, a_codes, a_names, a_waiting, a_group, a_listed)) : ∃ n8 : Nat, wY_withCycles_8 post v f_many f_colours (nI n) a_carries a_codes a_names a_waiting a_group a_listed n8 0 0 := by
  have key : ∀ d k, k + d = n → wY_withCycles_8 post v f_many f_colours (nI n) a_carries a_codes a_names a_waiting a_group a_listed (d + 1) (nI (cs_c (fun k => decide (nI (sh_a (sh_e (a k))) = v)) k)) (nI k) := by
    intro d
    induction d with
    | zero =>
      intro k hk
      have hk : k = n := by omega
      subst hk
      exact pk_le k k (fun _ => h) (fun h => absurd h (by omega))
    | succ d ih =>
      intro k hk
      have ec : (nI k).toNatClampNeg = k := nI_clamp (by omega)
      have hak := ha k (by omega)
      have hl := pm_slt hak.1
      have hi := ih (k + 1) (by omega)
      rw [cs_c1] at hi
      refine pk_le n k (fun h => absurd h (by omega)) (fun _ => ⟨pk_in k 720 (by omega), ?_⟩)
      rw [ec, hak.2]
      refine yw_cycles (by omega) (kf_M hak.1).2.1 (br_c (fun z => nm_r (nI_1 _) (nm_r (nI_1 k) ?_)) (fun z => nm_r (nI_1 k) ?_))
      · rw [decide_eq_true z] at hi; exact hi
      · rw [decide_eq_false z] at hi; exact hi
  exact ⟨n + 1, key n 0 (by omega)⟩
end
end
section
/-! the reference's kinds -/
theorem yn_ge {x : Int32} : 0 ≤ x ↔ ¬ x < 0 := by
  rw [Int32.le_iff_toInt_le, Int32.lt_iff_toInt_lt]; omega
theorem yn_m1 : ¬ (0 : Int32) ≤ -1 := by decide
section
variable {f_many f_colours f_size : Int32} {a_carries a_codes a_names a_waiting a_group a_listed : Nat → Int32}
theorem yw_colourings {post : Int32 → Prop} {c : Nat} (h : post (nI (c ^ 6))) : wpY_colourings post (f_many, nI c, f_size, a_carries, a_codes, a_names, a_waiting, a_group, a_listed) := by
  have key : ∀ d i, i + d = 6 → wY_colourings_4 post f_many (nI c) f_size a_carries a_codes a_names a_waiting a_group a_listed (d + 1) (nI (c ^ i)) (nI i) := by
    intro d
    induction d with
    | zero =>
      intro i hi
      have hi : i = 6 := by omega
      subst hi
      exact pk_le 6 6 (fun _ => h) (fun h => absurd h (by omega))
    | succ d ih =>
      intro i hi
      have e1 : nI (c ^ i) * nI c = nI (c ^ (i + 1)) := by rw [pk_mul, Nat.pow_succ]
      exact pk_le 6 i (fun h => absurd h (by omega)) (fun _ => nm_r e1 (nm_r (nI_1 i) (ih (i + 1) (by omega))))
  exact ⟨7, key 6 0 rfl⟩
theorem yw_done {post : Int32 → Prop} {c x f q : Nat} (hc : 0 < c) (h3 : c ≤ 3) (hx : x < 2 ^ 31) (hq : q < 3) (hf : ∀ j, j < 6 → a_carries (6 * q + j) = nI (pm_im f j)) (h : post (nI (ac_a c f x))) : wpY_done post (f_many, nI c, f_size, a_carries, a_codes, a_names, a_waiting, a_group, a_listed) (nI x) (nI q) := by
  have inner : ∀ (J : Int32 → Int32 → Prop) (i X : Nat), i < 6 → J (nI (X + ac_d c x i * c ^ pm_im f i)) (nI (i + 1)) → ∀ d k, k + d = pm_im f i → wY_done_18 post J (nI x) (nI q) (nI X) (nI i) f_many (nI c) f_size a_carries a_codes a_names a_waiting a_group a_listed (d + 1) (nI (c ^ k)) (nI k) := by
    intro J i X hi hJ d
    have h8 := pm_im8 f i
    have ec : (nI (6 * q + i)).toNatClampNeg = 6 * q + i := nI_clamp (by omega)
    induction d with
    | zero =>
      intro k hk
      have hk : k = pm_im f i := by omega
      unfold wY_done_18
      rw [xn_6, ec, hf i hi]
      refine ⟨pk_in (6 * q + i) 18 (by omega), pk_le (pm_im f i) k (fun _ => yw_digit hx hc (by omega) (by omega) (nm_r ?_ (nm_r (nI_1 i) hJ))) (fun h => absurd h (by omega))⟩
      rw [pk_mul, nI_add, hk]
    | succ d ih =>
      intro k hk
      unfold wY_done_18
      rw [xn_6, ec, hf i hi]
      have e1 : nI (c ^ k) * nI c = nI (c ^ (k + 1)) := by rw [pk_mul, Nat.pow_succ]
      exact ⟨pk_in (6 * q + i) 18 (by omega), pk_le (pm_im f i) k (fun h => absurd h (by omega)) (fun _ => nm_r e1 (nm_r (nI_1 k) (ih (k + 1) (by omega))))⟩
  have key : ∀ d i, i + d = 6 → wY_done_5 post (nI x) (nI q) f_many (nI c) f_size a_carries a_codes a_names a_waiting a_group a_listed (d + 1) (nI (cs_s (fun i => ac_d c x i * c ^ pm_im f i) i)) (nI i) := by
    intro d
    induction d with
    | zero =>
      intro i hi
      have hi : i = 6 := by omega
      subst hi
      exact pk_le 6 6 (fun _ => h) (fun h => absurd h (by omega))
    | succ d ih =>
      intro i hi
      exact pk_le 6 i (fun h => absurd h (by omega)) (fun _ => ⟨_, inner _ i _ (by omega) (ih (i + 1) (by omega)) (pm_im f i) 0 (by omega)⟩)
  exact ⟨7, key 6 0 rfl⟩
end
/-- while all that comes of w is named -/
def sp_R (m : Nat) (e : Nat → Nat) (c w y : Nat) : Prop := ∀ P : Nat → Prop, P w → (∀ y, P y → ∀ i, i < m → P (ac_a c (e i) y)) → P y
def sp_I (m : Nat) (e : Nat → Nat) (c w : Nat) (n0 nm wt : Nat → Int32) (left : Nat) (Ex : Nat → Prop) : Prop :=
  (∀ y, y < c ^ 6 → n0 y ≠ -1 → nm y = n0 y) ∧ (∀ y, y < c ^ 6 → n0 y = -1 → nm y = -1 ∨ (nm y = nI w ∧ sp_R m e c w y)) ∧
  (∀ j, j < left → ∃ y, y < c ^ 6 ∧ wt j = nI y ∧ n0 y = -1 ∧ nm y = nI w) ∧ (∀ j j', j < left → j' < left → wt j = wt j' → j = j') ∧
  (∀ y, y < c ^ 6 → n0 y = -1 → nm y = nI w → (∃ j, j < left ∧ wt j = nI y) ∨ (∀ i, i < m → nm (ac_a c (e i) y) = nI w) ∨ Ex y) ∧ nm w = nI w
noncomputable def sp_U (c : Nat) (nm : Nat → Int32) : Nat := cs_c (fun y => decide (nm y = -1)) (c ^ 6)
section
variable {m c w : Nat} {e : Nat → Nat} {n0 nm wt : Nat → Int32} {left : Nat}
theorem sp_c6 (h3 : c ≤ 3) : c ^ 6 ≤ 729 := Nat.pow_le_pow_left h3 6
theorem sp_left (h3 : c ≤ 3) {Ex : Nat → Prop} (I : sp_I m e c w n0 nm wt left Ex) {y : Nat} (hy : y < c ^ 6) (hn : nm y = -1) (hw : w < c ^ 6) : left < c ^ 6 := by
  have h6 := sp_c6 h3
  have hex : ∀ j : Nat, ∃ y : Nat, j < left → y < c ^ 6 ∧ wt j = nI y ∧ nm y = nI w := fun j => by
    by_cases hj : j < left
    · obtain ⟨y, h1, h2, _, h4⟩ := I.2.2.1 j hj
      exact ⟨y, fun _ => ⟨h1, h2, h4⟩⟩
    · exact ⟨0, fun z => absurd z hj⟩
  obtain ⟨g, hg⟩ := Classical.axiomOfChoice hex
  have h := cs_pig (n := left + 1) (m := c ^ 6) (fun j => if j = left then y else g j) (fun j hj => by
    try dsimp only
    split
    · exact hy
    · exact (hg j (by omega)).1) (fun j j' hj hj' z => by
    try dsimp only at z
    have hne : ∀ j, j < left → g j ≠ y := fun j hj z => by
      have := (hg j hj).2.2
      rw [z, hn] at this
      exact xn_ne1 (by omega) this.symm
    split at z
    · split at z
      · omega
      · exact absurd z.symm (hne j' (by omega))
    · split at z
      · exact absurd z (hne j (by omega))
      · exact I.2.2.2.1 j j' (by omega) (by omega) (by rw [(hg j (by omega)).2.1, (hg j' (by omega)).2.1, z]))
  omega
theorem sp_back (hc : 0 < c) {i : Nat} (he : pm_P (e i)) (hi : i < m) (h0 : ∀ y, y < c ^ 6 → n0 y ≠ -1 → ∀ i, i < m → n0 (ac_a c (e i) y) ≠ -1) {x : Nat} (hx : x < c ^ 6) (h : n0 x = -1) : n0 (ac_a c (e i) x) = -1 := by
  apply Classical.byContradiction
  intro hn
  exact ac_back hc he (P := fun y => n0 y ≠ -1) (fun y hy hP => h0 y hy hP i hi) hx hn h
theorem sp_skip {i x : Nat} (I : sp_I m e c w n0 nm wt left (fun y => y = x ∧ ∀ i', i' < i → nm (ac_a c (e i') y) = nI w)) (h : nm (ac_a c (e i) x) = nI w) : sp_I m e c w n0 nm wt left (fun y => y = x ∧ ∀ i', i' < i + 1 → nm (ac_a c (e i') y) = nI w) := by
  obtain ⟨i1, i2, i3, i4, i5, i6⟩ := I
  refine ⟨i1, i2, i3, i4, fun y hy h0 h1 => ?_, i6⟩
  rcases i5 y hy h0 h1 with z | z | ⟨z, z'⟩
  · exact Or.inl z
  · exact Or.inr (Or.inl z)
  · refine Or.inr (Or.inr ⟨z, fun i' hi' => ?_⟩)
    by_cases e' : i' = i
    · subst e'; rw [z]; exact h
    · exact z' i' (by omega)
theorem sp_push {i x : Nat} (h3 : c ≤ 3) (hw : w < c ^ 6) (hi : i < m) (I : sp_I m e c w n0 nm wt left (fun y => y = x ∧ ∀ i', i' < i → nm (ac_a c (e i') y) = nI w)) (hz : ac_a c (e i) x < c ^ 6) (hx : x < c ^ 6) (hx0 : n0 x = -1) (hx1 : nm x = nI w) (h0 : n0 (ac_a c (e i) x) = -1) (h : nm (ac_a c (e i) x) = -1) : sp_I m e c w n0 (upd nm (ac_a c (e i) x) (nI w)) (upd wt left (nI (ac_a c (e i) x))) (left + 1) (fun y => y = x ∧ ∀ i', i' < i + 1 → upd nm (ac_a c (e i) x) (nI w) (ac_a c (e i') y) = nI w) := by
  have h6 := sp_c6 h3
  have hR : sp_R m e c w x := ((I.2.1 x hx hx0).resolve_left (fun z => xn_ne1 (k := w) (by omega) (hx1.symm.trans z))).2
  have hRz : sp_R m e c w (ac_a c (e i) x) := fun P p0 p1 => p1 _ (hR P p0 p1) i hi
  obtain ⟨i1, i2, i3, i4, i5, i6⟩ := I
  generalize hzd : ac_a c (e i) x = z at *
  have up : ∀ q, nm q = nI w → upd nm z (nI w) q = nI w := fun q hq => by
    by_cases c' : q = z
    · subst c'; exact pk_us
    · rw [pk_un c']; exact hq
  have wo : ∀ j, j < left → upd wt left (nI z) j = wt j := fun j hj => pk_un (by omega)
  have wne : ∀ j, j < left → wt j ≠ nI z := fun j hj q => by
    obtain ⟨y, hy, e1, _, e2⟩ := i3 j hj
    have := (nI_eq (by omega) (by omega)).mp (e1.symm.trans q)
    subst this
    exact xn_ne1 (by omega) (e2.symm.trans h)
  refine ⟨fun y hy hn => ?_, fun y hy hn => ?_, fun j hj => ?_, fun j j' hj hj' q => ?_, fun y hy hn h1 => ?_, up w i6⟩
  · rw [pk_un (fun q => hn (by rw [q]; exact h0))]; exact i1 y hy hn
  · by_cases c' : y = z
    · subst c'; exact Or.inr ⟨pk_us, hRz⟩
    · rw [pk_un c']; exact i2 y hy hn
  · by_cases c' : j = left
    · subst c'; exact ⟨z, hz, pk_us, h0, pk_us⟩
    · obtain ⟨y, hy, e1, e2, e3⟩ := i3 j (by omega)
      exact ⟨y, hy, by rw [wo j (by omega)]; exact e1, e2, up y e3⟩
  · by_cases c1 : j = left
    · by_cases c2 : j' = left
      · omega
      · rw [c1, pk_us, wo j' (by omega)] at q
        exact absurd q.symm (wne j' (by omega))
    · by_cases c2 : j' = left
      · rw [c2, pk_us, wo j (by omega)] at q
        exact absurd q (wne j (by omega))
      · rw [wo j (by omega), wo j' (by omega)] at q
        exact i4 j j' (by omega) (by omega) q
  · by_cases c' : y = z
    · subst c'; exact Or.inl ⟨left, by omega, pk_us⟩
    · rw [pk_un c'] at h1
      rcases i5 y hy hn h1 with ⟨j, hj, q⟩ | q | ⟨q, q'⟩
      · exact Or.inl ⟨j, by omega, by rw [wo j hj]; exact q⟩
      · exact Or.inr (Or.inl fun i' hi' => up _ (q i' hi'))
      · refine Or.inr (Or.inr ⟨q, fun i' hi' => ?_⟩)
        by_cases e' : i' = i
        · subst e'; rw [q, hzd]; exact pk_us
        · exact up _ (q' i' (by omega))
theorem sp_done {x : Nat} (I : sp_I m e c w n0 nm wt left (fun y => y = x ∧ ∀ i', i' < m → nm (ac_a c (e i') y) = nI w)) : sp_I m e c w n0 nm wt left (fun _ => False) := by
  obtain ⟨i1, i2, i3, i4, i5, i6⟩ := I
  refine ⟨i1, i2, i3, i4, fun y hy h0 h1 => ?_, i6⟩
  rcases i5 y hy h0 h1 with z | z | ⟨z, z'⟩
  · exact Or.inl z
  · exact Or.inr (Or.inl z)
  · exact Or.inr (Or.inl z')
theorem sp_pop {x : Nat} (h3 : c ≤ 3) (I : sp_I m e c w n0 nm wt (left + 1) (fun _ => False)) (hx : x < c ^ 6) (h : wt left = nI x) : sp_I m e c w n0 nm wt left (fun y => y = x ∧ ∀ i', i' < 0 → nm (ac_a c (e i') y) = nI w) := by
  have h6 := sp_c6 h3
  obtain ⟨i1, i2, i3, i4, i5, i6⟩ := I
  refine ⟨i1, i2, fun j hj => i3 j (by omega), fun j j' hj hj' => i4 j j' (by omega) (by omega), fun y hy h0 h1 => ?_, i6⟩
  rcases i5 y hy h0 h1 with ⟨j, hj, z⟩ | z | z
  · by_cases c' : j = left
    · subst c'
      have := (nI_eq (by omega) (by omega)).mp (h.symm.trans z)
      exact Or.inr (Or.inr ⟨this.symm, fun i' hi' => by omega⟩)
    · exact Or.inl ⟨j, by omega, z⟩
  · exact Or.inr (Or.inl z)
  · exact absurd z id
theorem sp_Ul {z : Nat} (hz : z < c ^ 6) (h : nm z = -1) (h3 : c ≤ 3) (hw : w < c ^ 6) : sp_U c (upd nm z (nI w)) + 1 = sp_U c nm := by
  have h6 := sp_c6 h3
  unfold sp_U
  rw [cs_rm hz (q := fun y => decide (nm y = -1)) (decide_eq_true h)]
  refine congrArg (· + 1) (cs_ccongr fun y hy => ?_)
  by_cases c' : y = z
  · subst c'
    rw [pk_us, cs_beqt rfl, decide_eq_false (xn_ne1 (by omega))]; simp
  · rw [pk_un c', cs_beqf c']; simp
end
section
variable {f_many f_colours f_size : Int32} {a_carries a_codes a_names a_waiting a_group a_listed : Nat → Int32}
variable {m c w : Nat} {e : Nat → Nat} {n0 : Nat → Int32}
theorem yw_s33 {post : SY → Prop} {J : Int32 → (Nat → Int32) → (Nat → Int32) → (Nat → Int32) → (Nat → Int32) → (Nat → Int32) → (Nat → Int32) → Prop} {x B : Nat} (hm : m ≤ 3) (hc : 0 < c) (h3 : c ≤ 3) (hP : ∀ i, i < m → pm_P (e i)) (he : ∀ i, i < m → ∀ j, j < 6 → a_carries (6 * i + j) = nI (pm_im (e i) j)) (h0 : ∀ y, y < c ^ 6 → n0 y ≠ -1 → ∀ i, i < m → n0 (ac_a c (e i) y) ≠ -1) (hw : w < c ^ 6) (hx : x < c ^ 6) (hx0 : n0 x = -1) (hJ : ∀ nm wt left, sp_I m e c w n0 nm wt left (fun _ => False) → 2 * sp_U c nm + left ≤ B → J (nI left) a_carries a_codes nm wt a_group a_listed) : ∀ d i, i + d = m → ∀ nm wt left, sp_I m e c w n0 nm wt left (fun y => y = x ∧ ∀ i', i' < i → nm (ac_a c (e i') y) = nI w) → nm x = nI w → 2 * sp_U c nm + left ≤ B → wY_spread_33 post J (nI w) (nI x) (nI m) (nI c) f_size (d + 1) (nI left) (nI i) a_carries a_codes nm wt a_group a_listed := by
  have h6 := sp_c6 h3
  intro d
  induction d with
  | zero =>
    intro i hi nm wt left I hx1 hB
    have hi : i = m := by omega
    subst hi
    exact pk_le i i (fun _ => hJ nm wt left (sp_done I) hB) (fun h => absurd h (by omega))
  | succ d ih =>
    intro i hi nm wt left I hx1 hB
    have hz : ac_a c (e i) x < c ^ 6 := ac_lt hc (hP i (by omega))
    have hz0 := sp_back hc (hP i (by omega)) (by omega) h0 hx hx0
    have ec : (nI (ac_a c (e i) x)).toNatClampNeg = ac_a c (e i) x := nI_clamp (by omega)
    refine pk_le m i (fun h => absurd h (by omega)) (fun _ => yw_done hc h3 (by omega) (by omega) (he i (by omega)) ?_)
    rw [ec]
    refine ⟨pk_in (ac_a c (e i) x) 729 (by omega), br_c (fun hp => ?_) (fun hn => ?_)⟩
    · have hk : nm (ac_a c (e i) x) = nI w := ((I.2.1 _ hz hz0).resolve_left (fun q => by rw [q] at hp; exact yn_m1 hp)).1
      exact nm_r (nI_1 i) (ih (i + 1) (by omega) nm wt left (sp_skip I hk) hx1 hB)
    · have hk : nm (ac_a c (e i) x) = -1 := by
        rcases I.2.1 _ hz hz0 with q | q
        · exact q
        · exact absurd (by rw [q.1]; exact nI_pos' (by omega)) hn
      have hl := sp_left h3 I hz hk hw
      have el : (nI left).toNatClampNeg = left := nI_clamp (by omega)
      have hU := sp_Ul (w := w) hz hk h3 hw
      have hx2 : upd nm (ac_a c (e i) x) (nI w) x = nI w := by
        by_cases q : x = ac_a c (e i) x
        · rw [← q]; exact pk_us
        · rw [pk_un q]; exact hx1
      exact ⟨pk_in (ac_a c (e i) x) 729 (by omega), nm_e ⟨pk_in left 729 (by omega), nm_r (by rw [el]) (nm_r (nI_1 left) (nm_r (nI_1 i) (ih (i + 1) (by omega) _ _ (left + 1) (sp_push h3 hw (by omega) I hz hx hx0 hx1 hz0 hk) hx2 (by omega))))⟩⟩
theorem yw_s16 {post : SY → Prop} (hm : m ≤ 3) (hc : 0 < c) (h3 : c ≤ 3) (hP : ∀ i, i < m → pm_P (e i)) (he : ∀ i, i < m → ∀ j, j < 6 → a_carries (6 * i + j) = nI (pm_im (e i) j)) (h0 : ∀ y, y < c ^ 6 → n0 y ≠ -1 → ∀ i, i < m → n0 (ac_a c (e i) y) ≠ -1) (hw : w < c ^ 6) (h : ∀ nm wt, sp_I m e c w n0 nm wt 0 (fun _ => False) → post (nI m, nI c, f_size, a_carries, a_codes, nm, wt, a_group, a_listed)) : ∀ f nm wt left, sp_I m e c w n0 nm wt left (fun _ => False) → 2 * sp_U c nm + left < f → left < 2 ^ 31 → wY_spread_16 post (nI w) (nI m) (nI c) f_size f (nI left) a_carries a_codes nm wt a_group a_listed := by
  have h6 := sp_c6 h3
  intro f
  induction f with
  | zero => intro nm wt left I hf; omega
  | succ f ih =>
    intro nm wt left I hf hl
    refine pk_le left 0 (fun z => ?_) (fun z => ?_)
    · have : left = 0 := by omega
      subst this
      exact h nm wt I
    · obtain ⟨l, rfl⟩ : ∃ l, left = l + 1 := ⟨left - 1, by omega⟩
      obtain ⟨x, hx, e1, e2, e3⟩ := I.2.2.1 l (by omega)
      have el : (nI l).toNatClampNeg = l := nI_clamp (by omega)
      have hlt : l < 729 := by
        have hex : ∀ j : Nat, ∃ y : Nat, j < l + 1 → y < c ^ 6 ∧ wt j = nI y := fun j => by
          by_cases hj : j < l + 1
          · obtain ⟨y, q1, q2, _, _⟩ := I.2.2.1 j hj
            exact ⟨y, fun _ => ⟨q1, q2⟩⟩
          · exact ⟨0, fun z => absurd z hj⟩
        obtain ⟨g, hg⟩ := Classical.axiomOfChoice hex
        have := cs_pig (n := l + 1) (m := c ^ 6) g (fun j hj => (hg j hj).1) (fun j j' hj hj' z => I.2.2.2.1 j j' hj hj' (by rw [(hg j hj).2, (hg j' hj').2, z]))
        omega
      refine nm_r (pk_m1 l) ⟨pk_in l 729 hlt, ?_⟩
      rw [el]
      refine nm_r e1 ⟨m + 1, ?_⟩
      exact yw_s33 (B := 2 * sp_U c nm + l) hm hc h3 hP he h0 hw hx e2 (fun nm' wt' left' I' hB => ih nm' wt' left' I' (by omega) (by
        have := I'.2.2.1
        have hU : sp_U c nm ≤ c ^ 6 := cs_cle _ _
        omega)) m 0 (by omega) nm wt l (sp_pop h3 I hx e1) e3 (Nat.le_refl _)
theorem yw_spread {post : SY → Prop} (hm : m ≤ 3) (hc : 0 < c) (h3 : c ≤ 3) (hP : ∀ i, i < m → pm_P (e i)) (he : ∀ i, i < m → ∀ j, j < 6 → a_carries (6 * i + j) = nI (pm_im (e i) j)) (h0 : ∀ y, y < c ^ 6 → a_names y ≠ -1 → ∀ i, i < m → a_names (ac_a c (e i) y) ≠ -1) (hw : w < c ^ 6) (hn : a_names w = -1) (h : ∀ nm wt, sp_I m e c w a_names nm wt 0 (fun _ => False) → post (nI m, nI c, f_size, a_carries, a_codes, nm, wt, a_group, a_listed)) : wpY_spread post (nI m, nI c, f_size, a_carries, a_codes, a_names, a_waiting, a_group, a_listed) (nI w) := by
  have h6 := sp_c6 h3
  have ec : (nI w).toNatClampNeg = w := nI_clamp (by omega)
  have hU : sp_U c (upd a_names w (nI w)) ≤ c ^ 6 := cs_cle _ _
  refine ⟨pk_in w 729 (by omega), nm_r (by rw [ec]) (nm_e ⟨2 * c ^ 6 + 2, ?_⟩)⟩
  refine yw_s16 (n0 := a_names) hm hc h3 hP he h0 hw h _ _ _ 1 ?_ (by omega) (by omega)
  refine ⟨fun y hy q => ?_, fun y hy q => ?_, fun j hj => ?_, fun j j' hj hj' _ => by omega, fun y hy q q' => ?_, pk_us⟩
  · exact pk_un (fun z => q (by rw [z]; exact hn))
  · by_cases z : y = w
    · subst z; exact Or.inr ⟨pk_us, fun P p0 _ => p0⟩
    · rw [pk_un z]; exact Or.inl q
  · have : j = 0 := by omega
    subst this
    exact ⟨w, hw, pk_us, hn, pk_us⟩
  · by_cases z : y = w
    · subst z; exact Or.inl ⟨0, by omega, pk_us⟩
    · rw [pk_un z, q] at q'
      exact absurd q'.symm (xn_ne1 (by omega))
/-- all marks up to x are set -/
def fk_I (m : Nat) (e : Nat → Nat) (c x : Nat) (nm : Nat → Int32) : Prop :=
  (∀ y, y < c ^ 6 → nm y = -1 ∨ ∃ v, v ≤ y ∧ nm y = nI v ∧ sp_R m e c v y) ∧ (∀ y, y < c ^ 6 → nm y ≠ -1 → ∀ i, i < m → nm (ac_a c (e i) y) = nm y) ∧ ∀ y, y < x → nm y ≠ -1
theorem fk_next {x : Nat} {nm nm' wt : Nat → Int32} (h3 : c ≤ 3) (hx : x < c ^ 6) (hc : 0 < c) (hP : ∀ i, i < m → pm_P (e i)) (F : fk_I m e c x nm) (hn : nm x = -1) (I : sp_I m e c x nm nm' wt 0 (fun _ => False)) : fk_I m e c (x + 1) nm' := by
  have h6 := sp_c6 h3
  obtain ⟨f1, f2, f3⟩ := F
  obtain ⟨i1, i2, i3, i4, i5, i6⟩ := I
  have hlow : ∀ y, nm y = -1 → x ≤ y := fun y hy => by
    apply Classical.byContradiction
    intro q
    exact f3 y (by omega) hy
  refine ⟨fun y hy => ?_, fun y hy hne i hi => ?_, fun y hy => ?_⟩
  · by_cases q : nm y = -1
    · rcases i2 y hy q with z | z
      · exact Or.inl z
      · exact Or.inr ⟨x, hlow y q, z.1, z.2⟩
    · rw [i1 y hy q]; exact f1 y hy
  · have hz : ac_a c (e i) y < c ^ 6 := ac_lt hc (hP i hi)
    by_cases q : nm y = -1
    · have q2 := ((i2 y hy q).resolve_left hne).1
      rcases i5 y hy q q2 with ⟨j, hj, _⟩ | z | z
      · omega
      · rw [z i hi, q2]
      · exact absurd z id
    · have q2 := f2 y hy q i hi
      rw [i1 y hy q, i1 _ hz (by rw [q2]; exact q), q2]
  · by_cases q : y = x
    · subst q; rw [i6]; exact xn_ne1 (by omega)
    · have q2 := f3 y (by omega)
      rw [i1 y (by omega) q2]; exact q2
theorem fk_end {nm : Nat → Int32} (h3 : c ≤ 3) (hc : 0 < c) (hP : ∀ i, i < m → pm_P (e i)) (F : fk_I m e c (c ^ 6) nm) : ∃ f : Nat → Nat, nk_N m e c f ∧ ∀ y, y < c ^ 6 → nm y = nI (f y) := by
  have h6 := sp_c6 h3
  obtain ⟨f1, f2, f3⟩ := F
  have hv : ∀ y, y < c ^ 6 → ∃ v, v ≤ y ∧ nm y = nI v ∧ sp_R m e c v y := fun y hy => (f1 y hy).resolve_left (f3 y hy)
  have hf : ∀ y, y < c ^ 6 → (nm y).toNatClampNeg ≤ y ∧ nm y = nI (nm y).toNatClampNeg ∧ sp_R m e c (nm y).toNatClampNeg y := fun y hy => by
    obtain ⟨v, h1, h2, h4⟩ := hv y hy
    rw [h2, nI_clamp (by omega)]
    exact ⟨h1, rfl, h4⟩
  refine ⟨fun y => (nm y).toNatClampNeg, ⟨fun y hy => (hf y hy).1, fun y hy i hi => ?_, fun y hy => (hf y hy).2.2⟩, fun y hy => (hf y hy).2.1⟩
  show (nm (ac_a c (e i) y)).toNatClampNeg = (nm y).toNatClampNeg
  rw [f2 y hy (f3 y hy) i hi]
theorem yw_findKinds {post : SY → Prop} (hm : m ≤ 3) (hc : 0 < c) (h3 : c ≤ 3) (hP : ∀ i, i < m → pm_P (e i)) (he : ∀ i, i < m → ∀ j, j < 6 → a_carries (6 * i + j) = nI (pm_im (e i) j)) (h : ∀ f nm wt, nk_N m e c f → (∀ y, y < c ^ 6 → nm y = nI (f y)) → post (nI m, nI c, f_size, a_carries, a_codes, nm, wt, a_group, a_listed)) : wpY_findKinds post (nI m, nI c, f_size, a_carries, a_codes, a_names, a_waiting, a_group, a_listed) := by
  have h6 := sp_c6 h3
  have l27 : ∀ d x, x + d = c ^ 6 → ∀ nm wt, fk_I m e c x nm → wY_findKinds_27 post (nI (c ^ 6)) (d + 1) (nI x) (nI m) (nI c) f_size a_carries a_codes nm wt a_group a_listed := by
    intro d
    induction d with
    | zero =>
      intro x hx nm wt F
      have hx : x = c ^ 6 := by omega
      subst hx
      obtain ⟨f, hf, hn⟩ := fk_end h3 hc hP F
      exact pk_le (c ^ 6) (c ^ 6) (fun _ => h f nm wt hf hn) (fun h => absurd h (by omega))
    | succ d ih =>
      intro x hx nm wt F
      have ec : (nI x).toNatClampNeg = x := nI_clamp (by omega)
      refine pk_le (c ^ 6) x (fun h => absurd h (by omega)) (fun _ => ⟨pk_in x 729 (by omega), ?_⟩)
      rw [ec]
      refine br_c (fun hp => ?_) (fun hn => ?_)
      · refine nm_r (nI_1 x) (ih (x + 1) (by omega) nm wt ⟨F.1, F.2.1, fun y hy => ?_⟩)
        by_cases q : y = x
        · subst q
          intro z
          rw [z] at hp
          exact yn_m1 hp
        · exact F.2.2 y (by omega)
      · have hk : nm x = -1 := by
          rcases F.1 x (by omega) with q | ⟨v, hv, q, _⟩
          · exact q
          · exact absurd (by rw [q]; exact nI_pos' (by omega)) hn
        exact yw_spread hm hc h3 hP he (fun y hy q i hi => by rw [F.2.1 y hy q i hi]; exact q) (by omega) hk (fun nm' wt' I => nm_r (nI_1 x) (ih (x + 1) (by omega) nm' wt' (fk_next h3 (by omega) hc hP F hk I)))
  have l7 : ∀ d x, x + d = c ^ 6 → ∀ nm : Nat → Int32, (∀ y, y < x → nm y = -1) → wY_findKinds_7 post (nI (c ^ 6)) (nI m) (nI c) f_size (d + 1) (nI x) a_carries a_codes nm a_waiting a_group a_listed := by
    intro d
    induction d with
    | zero =>
      intro x hx nm hn
      have hx : x = c ^ 6 := by omega
      subst hx
      exact pk_le (c ^ 6) (c ^ 6) (fun _ => ⟨c ^ 6 + 1, l27 (c ^ 6) 0 (by omega) nm a_waiting ⟨fun y hy => Or.inl (hn y hy), fun y hy q => absurd (hn y hy) q, fun y hy => by omega⟩⟩) (fun h => absurd h (by omega))
    | succ d ih =>
      intro x hx nm hn
      have ec : (nI x).toNatClampNeg = x := nI_clamp (by omega)
      refine pk_le (c ^ 6) x (fun h => absurd h (by omega)) (fun _ => ⟨pk_in x 729 (by omega), nm_r (by rw [ec]) (nm_r (nI_1 x) (ih (x + 1) (by omega) _ (fun y hy => ?_)))⟩)
      by_cases q : y = x
      · subst q; exact pk_us
      · rw [pk_un q]; exact hn y (by omega)
  unfold wpY_findKinds
  dsimp only
  exact yw_colourings ⟨c ^ 6 + 1, l7 (c ^ 6) 0 (by omega) a_names (fun y hy => by omega)⟩
end
end
section
/-! what the reference counts over its marks -/
noncomputable def al_p (c x k : Nat) : Bool := Nat.rec true (fun d r => r && Nat.blt 0 (ac_n c x d)) k
theorem al_1 (c x k : Nat) : al_p c x (k + 1) = (al_p c x k && Nat.blt 0 (ac_n c x k)) := rfl
theorem al_c (c x : Nat) : al_p c x c = ac_al c x := rfl
section
variable {f_many f_colours f_size : Int32} {a_carries a_codes a_names a_waiting a_group a_listed : Nat → Int32}
variable {c : Nat} {f : Nat → Nat}
theorem yw_placesOf {post : Int32 → Prop} {x d : Nat} (hc : 0 < c) (h3 : c ≤ 3) (hx : x < 2 ^ 31) (hd : d < 2 ^ 31) (h : post (nI (ac_n c x d))) : wpY_placesOf post (f_many, nI c, f_size, a_carries, a_codes, a_names, a_waiting, a_group, a_listed) (nI x) (nI d) := by
  have key : ∀ k i, i + k = 6 → wY_placesOf_5 post (nI x) (nI d) f_many (nI c) f_size a_carries a_codes a_names a_waiting a_group a_listed (k + 1) (nI (cs_c (fun i => ac_d c x i == d) i)) (nI i) := by
    intro k
    induction k with
    | zero =>
      intro i hi
      have hi : i = 6 := by omega
      subst hi
      exact pk_le 6 6 (fun _ => h) (fun h => absurd h (by omega))
    | succ k ih =>
      intro i hi
      have hi2 := ih (i + 1) (by omega)
      rw [cs_c1] at hi2
      have hd2 : ac_d c x i < c := ac_dlt hc
      refine pk_le 6 i (fun h => absurd h (by omega)) (fun _ => yw_digit hx hc (by omega) (by omega) (pk_eq (ac_d c x i) d (fun z => nm_r (nI_1 _) (nm_r (nI_1 i) ?_)) (fun z => nm_r (nI_1 i) ?_)))
      · rw [cs_beqt z] at hi2; exact hi2
      · rw [cs_beqf z] at hi2; exact hi2
  exact ⟨7, key 6 0 rfl⟩
theorem yw_kinds {post : Int32 → SY → Prop} (h3 : c ≤ 3) (hf : ∀ y, y < c ^ 6 → f y ≤ y) (hn : ∀ y, y < c ^ 6 → a_names y = nI (f y)) (h : post (nI (cs_c (fun x => f x == x) (c ^ 6))) (f_many, f_colours, f_size, a_carries, a_codes, a_names, a_waiting, a_group, a_listed)) : ∃ n13 : Nat, wY_kinds_13 post (nI (c ^ 6)) f_many f_colours f_size a_carries a_codes a_names a_waiting a_group a_listed n13 0 0 := by
  have h6 := sp_c6 h3
  have key : ∀ d x, x + d = c ^ 6 → wY_kinds_13 post (nI (c ^ 6)) f_many f_colours f_size a_carries a_codes a_names a_waiting a_group a_listed (d + 1) (nI (cs_c (fun x => f x == x) x)) (nI x) := by
    intro d
    induction d with
    | zero =>
      intro x hx
      have hx : x = c ^ 6 := by omega
      subst hx
      exact pk_le (c ^ 6) (c ^ 6) (fun _ => h) (fun h => absurd h (by omega))
    | succ d ih =>
      intro x hx
      have ec : (nI x).toNatClampNeg = x := nI_clamp (by omega)
      have hfx := hf x (by omega)
      have hi := ih (x + 1) (by omega)
      rw [cs_c1] at hi
      refine pk_le (c ^ 6) x (fun h => absurd h (by omega)) (fun _ => ⟨pk_in x 729 (by omega), ?_⟩)
      rw [ec, hn x (by omega)]
      refine pk_eq (f x) x (fun z => nm_r (nI_1 _) (nm_r (nI_1 x) ?_)) (fun z => nm_r (nI_1 x) ?_)
      · rw [cs_beqt z] at hi; exact hi
      · rw [cs_beqf z] at hi; exact hi
  exact ⟨c ^ 6 + 1, key (c ^ 6) 0 (by omega)⟩
theorem yw_kw48 {post : Int32 → SY → Prop} {J : Int32 → Int32 → Prop} {x1 x2 x3 : Int32} {x n : Nat} {b : Bool} (h3 : c ≤ 3) (hx : x < c ^ 6) (hf : f x ≤ x) (hn : a_names x = nI (f x)) (h : J (nI (n + (b && f x == x).toNat)) (nI (x + 1))) : wY_kindsWith_48 post J x1 x2 x3 (nI n) (nI x) (nI b.toNat) f_many f_colours f_size a_carries a_codes a_names a_waiting a_group a_listed := by
  have h6 := sp_c6 h3
  have ec : (nI x).toNatClampNeg = x := nI_clamp (by omega)
  unfold wY_kindsWith_48
  rw [ec, hn]
  refine ⟨pk_in x 729 (by omega), pk_eq (f x) x (fun z => ?_) (fun z => nm_r (nI_1 x) ?_)⟩
  · rw [cs_beqt z, Bool.and_true] at h
    cases b with
    | false => exact br_t (by decide) (nm_r (nI_1 x) h)
    | true => exact br_f (by decide) (nm_r (nI_1 n) (nm_r (nI_1 x) h))
  · rw [cs_beqf z, Bool.and_false] at h; exact h
theorem yw_kindsWith {post : Int32 → SY → Prop} {v1 v2 : Int32} (hc : 0 < c) (h3 : c ≤ 3) (hf : ∀ y, y < c ^ 6 → f y ≤ y) (hn : ∀ y, y < c ^ 6 → a_names y = nI (f y)) (h : post (nI (cs_c (fun x => (decide (nI (ac_n c x 0) = v1) && decide (nI (ac_n c x 1) = v2)) && f x == x) (c ^ 6))) (f_many, nI c, f_size, a_carries, a_codes, a_names, a_waiting, a_group, a_listed)) : ∃ n15 : Nat, wY_kindsWith_15 post v1 v2 (nI (c ^ 6)) f_many (nI c) f_size a_carries a_codes a_names a_waiting a_group a_listed n15 0 0 := by
  have h6 := sp_c6 h3
  have key : ∀ d x, x + d = c ^ 6 → wY_kindsWith_15 post v1 v2 (nI (c ^ 6)) f_many (nI c) f_size a_carries a_codes a_names a_waiting a_group a_listed (d + 1) (nI (cs_c (fun x => (decide (nI (ac_n c x 0) = v1) && decide (nI (ac_n c x 1) = v2)) && f x == x) x)) (nI x) := by
    intro d
    induction d with
    | zero =>
      intro x hx
      have hx : x = c ^ 6 := by omega
      subst hx
      exact pk_le (c ^ 6) (c ^ 6) (fun _ => h) (fun h => absurd h (by omega))
    | succ d ih =>
      intro x hx
      have hi := ih (x + 1) (by omega)
      rw [cs_c1] at hi
      refine pk_le (c ^ 6) x (fun h => absurd h (by omega)) (fun _ => yw_placesOf (d := 0) hc h3 (by omega) (by decide) (br_c (fun z => yw_placesOf (d := 1) hc h3 (by omega) (by decide) (br_c (fun z' => ?_) (fun z' => ?_))) (fun z => ?_)))
      · rw [decide_eq_true z, decide_eq_true z', Bool.true_and] at hi
        exact yw_kw48 (b := true) h3 (by omega) (hf x (by omega)) (hn x (by omega)) hi
      · rw [decide_eq_false z', Bool.and_false] at hi
        exact yw_kw48 (b := false) h3 (by omega) (hf x (by omega)) (hn x (by omega)) hi
      · rw [decide_eq_false z, Bool.false_and] at hi
        exact yw_kw48 (b := false) h3 (by omega) (hf x (by omega)) (hn x (by omega)) hi
  exact ⟨c ^ 6 + 1, key (c ^ 6) 0 (by omega)⟩
theorem yw_ka38 {post : Int32 → SY → Prop} {J : Int32 → Int32 → Prop} {x1 : Int32} {x n : Nat} {g : Bool} (hc : 0 < c) (h3 : c ≤ 3) (hx : x < c ^ 6) (h : J (nI (n + (al_p c x c && g).toNat)) (nI (x + 1))) : ∀ d k, k + d = c → wY_kindsWithAll_38 post J x1 (nI n) (nI x) f_many (nI c) f_size a_carries a_codes a_names a_waiting a_group a_listed (d + 1) (nI (al_p c x k && g).toNat) (nI k) := by
  have h6 := sp_c6 h3
  intro d
  induction d with
  | zero =>
    intro k hk
    have hk : k = c := by omega
    subst hk
    refine pk_le k k (fun _ => ?_) (fun h => absurd h (by omega))
    cases hb : (al_p k x k && g) with
    | false => rw [hb] at h; exact br_t (by decide) (nm_r (nI_1 x) h)
    | true => rw [hb] at h; exact br_f (by decide) (nm_r (nI_1 n) (nm_r (nI_1 x) h))
  | succ d ih =>
    intro k hk
    have hi := ih (k + 1) (by omega)
    rw [al_1] at hi
    have hle : ac_n c x k ≤ 6 := cs_cle _ _
    refine pk_le c k (fun h => absurd h (by omega)) (fun _ => ?_)
    cases hb : (al_p c x k && g) with
    | false =>
      have e : (al_p c x k && Nat.blt 0 (ac_n c x k) && g) = false := by
        rw [Bool.and_assoc, Bool.and_comm (Nat.blt _ _), ← Bool.and_assoc, hb, Bool.false_and]
      rw [e] at hi
      exact br_t (by decide) (nm_r (nI_1 k) hi)
    | true =>
      have e : (al_p c x k && Nat.blt 0 (ac_n c x k) && g) = Nat.blt 0 (ac_n c x k) := by
        rw [Bool.and_assoc, Bool.and_comm (Nat.blt _ _), ← Bool.and_assoc, hb, Bool.true_and]
      rw [e] at hi
      refine br_f (by decide) (yw_placesOf hc h3 (by omega) (by omega) (pk_le (ac_n c x k) 0 (fun z => nm_r (nI_1 k) ?_) (fun z => nm_r (nI_1 k) ?_)))
      · have e2 : Nat.blt 0 (ac_n c x k) = false := by rw [← Bool.not_eq_true, Nat.blt_eq]; omega
        rw [e2] at hi; exact hi
      · have e2 : Nat.blt 0 (ac_n c x k) = true := by rw [Nat.blt_eq]; exact z
        rw [e2] at hi; exact hi
theorem yw_kindsWithAll {post : Int32 → SY → Prop} (hc : 0 < c) (h3 : c ≤ 3) (hf : ∀ y, y < c ^ 6 → f y ≤ y) (hn : ∀ y, y < c ^ 6 → a_names y = nI (f y)) (h : post (nI (cs_c (fun x => ac_al c x && f x == x) (c ^ 6))) (f_many, nI c, f_size, a_carries, a_codes, a_names, a_waiting, a_group, a_listed)) : ∃ n13 : Nat, wY_kindsWithAll_13 post (nI (c ^ 6)) f_many (nI c) f_size a_carries a_codes a_names a_waiting a_group a_listed n13 0 0 := by
  have h6 := sp_c6 h3
  have key : ∀ d x, x + d = c ^ 6 → wY_kindsWithAll_13 post (nI (c ^ 6)) f_many (nI c) f_size a_carries a_codes a_names a_waiting a_group a_listed (d + 1) (nI (cs_c (fun x => ac_al c x && f x == x) x)) (nI x) := by
    intro d
    induction d with
    | zero =>
      intro x hx
      have hx : x = c ^ 6 := by omega
      subst hx
      exact pk_le (c ^ 6) (c ^ 6) (fun _ => h) (fun h => absurd h (by omega))
    | succ d ih =>
      intro x hx
      have ec : (nI x).toNatClampNeg = x := nI_clamp (by omega)
      have hfx := hf x (by omega)
      have hi := ih (x + 1) (by omega)
      rw [cs_c1, ← al_c] at hi
      refine pk_le (c ^ 6) x (fun h => absurd h (by omega)) (fun _ => ⟨pk_in x 729 (by omega), ?_⟩)
      rw [ec, hn x (by omega)]
      have k38 := yw_ka38 (post := post) (x1 := nI (c ^ 6)) (f_many := f_many) (f_size := f_size) (a_carries := a_carries) (a_codes := a_codes) (a_names := a_names) (a_waiting := a_waiting) (a_group := a_group) (a_listed := a_listed) hc h3 (show x < c ^ 6 by omega) hi c 0 (by omega)
      refine pk_eq (f x) x (fun z => ⟨c + 1, ?_⟩) (fun z => ⟨c + 1, ?_⟩)
      · rw [cs_beqt z] at k38; exact k38
      · rw [cs_beqf z] at k38; exact k38
  exact ⟨c ^ 6 + 1, key (c ^ 6) 0 (by omega)⟩
theorem yw_isColouring {post : Int32 → Prop} {p : Int32} (h3 : c ≤ 3) (h1 : ∀ x, x < c ^ 6 → p = nI x → post 1) (h2 : (∀ x, x < c ^ 6 → p ≠ nI x) → post 0) : wpY_isColouring post (f_many, nI c, f_size, a_carries, a_codes, a_names, a_waiting, a_group, a_listed) p := by
  have h6 := sp_c6 h3
  refine br_c (fun hn => h2 (fun x hx e => ?_)) (fun hn => ?_)
  · subst e; exact nI_pos (by omega) hn
  · obtain ⟨x, hx, rfl⟩ := nI_of hn
    exact yw_colourings (pk_le (c ^ 6) x (fun hl => h2 (fun y hy e => by
      have := (nI_eq hx (by omega)).mp e
      omega)) (fun hl => h1 x hl rfl))
theorem yw_sizeOf {post : Int32 → Prop} {v : Nat} (h3 : c ≤ 3) (hv : v < c ^ 6) (hf : ∀ y, y < c ^ 6 → f y ≤ y) (hn : ∀ y, y < c ^ 6 → a_names y = nI (f y)) (h : post (nI (cs_c (fun y => f y == v) (c ^ 6)))) : wpY_sizeOf post (f_many, nI c, f_size, a_carries, a_codes, a_names, a_waiting, a_group, a_listed) (nI v) := by
  have h6 := sp_c6 h3
  have key : ∀ d x, x + d = c ^ 6 → wY_sizeOf_10 post (nI v) (nI (c ^ 6)) f_many (nI c) f_size a_carries a_codes a_names a_waiting a_group a_listed (d + 1) (nI (cs_c (fun y => f y == v) x)) (nI x) := by
    intro d
    induction d with
    | zero =>
      intro x hx
      have hx : x = c ^ 6 := by omega
      subst hx
      exact pk_le (c ^ 6) (c ^ 6) (fun _ => h) (fun h => absurd h (by omega))
    | succ d ih =>
      intro x hx
      have ec : (nI x).toNatClampNeg = x := nI_clamp (by omega)
      have hfx := hf x (by omega)
      have hi := ih (x + 1) (by omega)
      rw [cs_c1] at hi
      refine pk_le (c ^ 6) x (fun h => absurd h (by omega)) (fun _ => ⟨pk_in x 729 (by omega), ?_⟩)
      rw [ec, hn x (by omega)]
      refine pk_eq (f x) v (fun z => nm_r (nI_1 _) (nm_r (nI_1 x) ?_)) (fun z => nm_r (nI_1 x) ?_)
      · rw [cs_beqt z] at hi; exact hi
      · rw [cs_beqf z] at hi; exact hi
  unfold wpY_sizeOf
  dsimp only
  exact yw_colourings ⟨c ^ 6 + 1, key (c ^ 6) 0 (by omega)⟩
theorem yw_still {post : Int32 → SY → Prop} (h3 : c ≤ 3) (hf : ∀ y, y < c ^ 6 → f y ≤ y) (hn : ∀ y, y < c ^ 6 → a_names y = nI (f y)) (h : post (nI (cs_c (fun x => f x == x && cs_c (fun y => f y == x) (c ^ 6) == 1) (c ^ 6))) (f_many, nI c, f_size, a_carries, a_codes, a_names, a_waiting, a_group, a_listed)) : ∃ n13 : Nat, wY_still_13 post (nI (c ^ 6)) f_many (nI c) f_size a_carries a_codes a_names a_waiting a_group a_listed n13 0 0 := by
  have h6 := sp_c6 h3
  have key : ∀ d x, x + d = c ^ 6 → wY_still_13 post (nI (c ^ 6)) f_many (nI c) f_size a_carries a_codes a_names a_waiting a_group a_listed (d + 1) (nI (cs_c (fun x => f x == x && cs_c (fun y => f y == x) (c ^ 6) == 1) x)) (nI x) := by
    intro d
    induction d with
    | zero =>
      intro x hx
      have hx : x = c ^ 6 := by omega
      subst hx
      exact pk_le (c ^ 6) (c ^ 6) (fun _ => h) (fun h => absurd h (by omega))
    | succ d ih =>
      intro x hx
      have ec : (nI x).toNatClampNeg = x := nI_clamp (by omega)
      have hfx := hf x (by omega)
      have hle : cs_c (fun y => f y == x) (c ^ 6) ≤ c ^ 6 := cs_cle _ _
      have hi := ih (x + 1) (by omega)
      rw [cs_c1] at hi
      refine pk_le (c ^ 6) x (fun h => absurd h (by omega)) (fun _ => ⟨pk_in x 729 (by omega), ?_⟩)
      rw [ec, hn x (by omega)]
      refine pk_eq (f x) x (fun z => yw_sizeOf h3 (by omega) hf hn (pk_eq (cs_c (fun y => f y == x) (c ^ 6)) 1 (fun z' => nm_r (nI_1 _) (nm_r (nI_1 x) ?_)) (fun z' => nm_r (nI_1 x) ?_))) (fun z => nm_r (nI_1 x) ?_)
      · rw [cs_beqt z, cs_beqt z'] at hi; exact hi
      · rw [cs_beqt z, cs_beqf z'] at hi; exact hi
      · rw [cs_beqf z, Bool.false_and] at hi; exact hi
  exact ⟨c ^ 6 + 1, key (c ^ 6) 0 (by omega)⟩
theorem yw_exchanged {post : Int32 → Prop} {x : Nat} (hc : 0 < c) (h3 : c ≤ 3) (hx : x < 2 ^ 31) (h : post (nI (ac_x c x))) : wpY_exchanged post (f_many, nI c, f_size, a_carries, a_codes, a_names, a_waiting, a_group, a_listed) (nI x) := by
  have key : ∀ k, k ≤ 6 → ∀ s, post (nI (hz_n c (fun i => ac_t c (ac_d c x i)) k s)) → wY_exchanged_4 post (nI x) f_many (nI c) f_size a_carries a_codes a_names a_waiting a_group a_listed (k + 1) (nI s) (nI k + (-1)) := by
    intro k
    induction k with
    | zero => intro _ s hp; exact xn_neg hp
    | succ k ih =>
      intro hk s hp
      rw [pk_m1]
      have hd : ac_d c x k < c := ac_dlt hc
      have ee : ∀ d, nI s * nI c + nI d = nI (s * c + d) := fun d => by rw [pk_mul, nI_add]
      rw [hz_1] at hp
      refine br_f (nI_pos (by omega)) (yw_digit hx hc (by omega) (by omega) (pk_le 2 (ac_d c x k) (fun z => nm_r (ee _) (nm_e (ih (by omega) _ ?_))) (fun z => pk_le c 1 (fun z' => nm_r (ee _) (nm_e (ih (by omega) _ ?_))) (fun z' => nm_r (e' := nI (s * c + (1 - ac_d c x k))) ?_ (nm_e (ih (by omega) _ ?_))))))
      · rw [ac_t, if_neg (by omega)] at hp; exact hp
      · rw [ac_t, if_neg (by omega)] at hp; exact hp
      · have e1 : (1 : Int32) - nI (ac_d c x k) = nI (1 - ac_d c x k) := pk_sub (a := 1) (by omega)
        rw [e1, ee]
      · rw [ac_t, if_pos (by omega)] at hp; exact hp
  have k := key 6 (by omega) 0 (by rw [hz_6]; exact h)
  exact ⟨7, k⟩
theorem yw_selfExchanged {post : Int32 → SY → Prop} (hc : 0 < c) (h3 : c ≤ 3) (hf : ∀ y, y < c ^ 6 → f y ≤ y) (hn : ∀ y, y < c ^ 6 → a_names y = nI (f y)) (h : post (nI (cs_c (fun x => f x == x && f (ac_x c x) == x) (c ^ 6))) (f_many, nI c, f_size, a_carries, a_codes, a_names, a_waiting, a_group, a_listed)) : ∃ n13 : Nat, wY_selfExchanged_13 post (nI (c ^ 6)) f_many (nI c) f_size a_carries a_codes a_names a_waiting a_group a_listed n13 0 0 := by
  have h6 := sp_c6 h3
  have key : ∀ d x, x + d = c ^ 6 → wY_selfExchanged_13 post (nI (c ^ 6)) f_many (nI c) f_size a_carries a_codes a_names a_waiting a_group a_listed (d + 1) (nI (cs_c (fun x => f x == x && f (ac_x c x) == x) x)) (nI x) := by
    intro d
    induction d with
    | zero =>
      intro x hx
      have hx : x = c ^ 6 := by omega
      subst hx
      exact pk_le (c ^ 6) (c ^ 6) (fun _ => h) (fun h => absurd h (by omega))
    | succ d ih =>
      intro x hx
      have ec : (nI x).toNatClampNeg = x := nI_clamp (by omega)
      have hfx := hf x (by omega)
      have hxl : ac_x c x < c ^ 6 := (ac_xd hc).1
      have hfx2 := hf _ hxl
      have ec2 : (nI (ac_x c x)).toNatClampNeg = ac_x c x := nI_clamp (by omega)
      have hi := ih (x + 1) (by omega)
      rw [cs_c1] at hi
      refine pk_le (c ^ 6) x (fun h => absurd h (by omega)) (fun _ => yw_exchanged hc h3 (by omega) ?_)
      rw [ec, hn x (by omega), ec2, hn _ hxl]
      refine ⟨pk_in x 729 (by omega), pk_eq (f x) x (fun z => ⟨pk_in (ac_x c x) 729 (by omega), pk_eq (f (ac_x c x)) x (fun z' => nm_r (nI_1 _) (nm_r (nI_1 x) ?_)) (fun z' => nm_r (nI_1 x) ?_)⟩) (fun z => nm_r (nI_1 x) ?_)⟩
      · rw [cs_beqt z, cs_beqt z'] at hi; exact hi
      · rw [cs_beqt z, cs_beqf z'] at hi; exact hi
      · rw [cs_beqf z, Bool.false_and] at hi; exact hi
  exact ⟨c ^ 6 + 1, key (c ^ 6) 0 (by omega)⟩
end
end
section
/-! sets of places and of pairs, as bits, that grow till they are closed -/
def rs_I (N m : Nat) (B : Nat → Nat → Nat) (qf wf : Nat → Nat) (T0 T : Nat → Bool) (t : Nat) : Prop := (∀ x, x < N → T0 x = true → T x = true) ∧ (∀ t', t' < t → qf t' < m → T0 (wf t') = true → T (B (qf t') (wf t')) = true) ∧ ∀ P : Nat → Prop, (∀ x, x < N → T0 x = true → P x) → (∀ y, P y → ∀ i, i < m → P (B i y)) → ∀ x, x < N → T x = true → P x
theorem rs_0 (N m : Nat) (B : Nat → Nat → Nat) (qf wf : Nat → Nat) (T0 : Nat → Bool) : rs_I N m B qf wf T0 T0 0 := ⟨fun _ _ h => h, fun t' h => by omega, fun P h _ x hx hT => h x hx hT⟩
theorem rs_add {N m t : Nat} {B : Nat → Nat → Nat} {qf wf : Nat → Nat} {T0 T T' : Nat → Bool} (I : rs_I N m B qf wf T0 T t) (h1 : qf t < m) (h2 : wf t < N) (h3 : T (wf t) = true) (hT : ∀ x, T' x = (T x || decide (B (qf t) (wf t) = x))) : rs_I N m B qf wf T0 T' (t + 1) := by
  obtain ⟨i1, i2, i3⟩ := I
  have up : ∀ x, T x = true → T' x = true := fun x h => by rw [hT, h, Bool.true_or]
  refine ⟨fun x hx h => up x (i1 x hx h), fun t' ht hq hw => ?_, fun P p0 p1 x hx h => ?_⟩
  · by_cases e : t' = t
    · subst e; rw [hT, decide_eq_true rfl, Bool.or_true]
    · exact up _ (i2 t' (by omega) hq hw)
  · rw [hT, Bool.or_eq_true, decide_eq_true_eq] at h
    rcases h with h | h
    · exact i3 P p0 p1 x hx h
    · rw [← h]; exact p1 _ (i3 P p0 p1 _ h2 h3) _ h1
theorem rs_skip {N m t : Nat} {B : Nat → Nat → Nat} {qf wf : Nat → Nat} {T0 T : Nat → Bool} (I : rs_I N m B qf wf T0 T t) (h2 : wf t < N) (h : ¬ (qf t < m ∧ T (wf t) = true)) : rs_I N m B qf wf T0 T (t + 1) := by
  obtain ⟨i1, i2, i3⟩ := I
  refine ⟨i1, fun t' ht hq hw => ?_, i3⟩
  by_cases e : t' = t
  · subst e; exact absurd ⟨hq, i1 _ h2 hw⟩ h
  · exact i2 t' (by omega) hq hw
theorem rs_end {N m K : Nat} {B : Nat → Nat → Nat} {qf wf : Nat → Nat} {T0 T : Nat → Bool} (I : rs_I N m B qf wf T0 T K) (h : ∀ q, q < m → ∀ w, w < N → ∃ t, t < K ∧ qf t = q ∧ wf t = w) : cl_R N m B T0 T := by
  obtain ⟨i1, i2, i3⟩ := I
  refine ⟨i1, fun x hx hT i hi => ?_, i3⟩
  obtain ⟨t, ht, e1, e2⟩ := h i hi x hx
  have := i2 t ht (by rw [e1]; exact hi) (by rw [e2]; exact hT)
  rw [e1, e2] at this
  exact this
/-- after r rounds -/
def rs_R (N m : Nat) (B : Nat → Nat → Nat) (x0 r : Nat) (T : Nat → Bool) : Prop := (cl_C N m B T ∨ r + 1 ≤ cs_c T N) ∧ T x0 = true ∧ ∀ x, x < N → T x = true → ∀ P : Nat → Prop, P x0 → (∀ y, P y → ∀ i, i < m → P (B i y)) → P x
theorem rs_R0 {N m x0 : Nat} {B : Nat → Nat → Nat} (h0 : x0 < N) {T : Nat → Bool} (hT : ∀ x, T x = decide (x0 = x)) : rs_R N m B x0 0 T := by
  refine ⟨Or.inr ?_, by rw [hT]; exact decide_eq_true rfl, fun x hx h P p0 _ => ?_⟩
  · have := cs_rm (q := T) h0 (by rw [hT]; exact decide_eq_true rfl)
    omega
  · rw [hT, decide_eq_true_eq] at h
    rw [← h]; exact p0
theorem rs_R1 {N m x0 r : Nat} {B : Nat → Nat → Nat} {T T' : Nat → Bool} (h0 : x0 < N) (hB : ∀ x, x < N → T x = true → ∀ i, i < m → B i x < N) (R : rs_R N m B x0 r T) (C : cl_R N m B T T') : rs_R N m B x0 (r + 1) T' := by
  refine ⟨cl_step hB C R.1, C.1 x0 h0 R.2.1, fun x hx h P p0 p1 => ?_⟩
  exact C.2.2 P (fun y hy hT => R.2.2 y hy hT P p0 p1) p1 x hx h
theorem rs_bits {s i : Nat} : s % 2 ^ i = 0 ↔ ∀ j, j < i → s.testBit j = false := by
  constructor
  · intro h j hj
    have := Nat.testBit_mod_two_pow s i j
    rw [h, Nat.zero_testBit, decide_eq_true hj, Bool.true_and] at this
    exact this.symm
  · intro h
    apply Nat.eq_of_testBit_eq
    intro j
    rw [Nat.testBit_mod_two_pow, Nat.zero_testBit]
    by_cases hj : j < i
    · rw [h j hj, Bool.and_false]
    · rw [decide_eq_false hj, Bool.false_and]
theorem rs_or (s b x : Nat) : (s ||| 2 ^ b).testBit x = (s.testBit x || decide (b = x)) := by rw [Nat.testBit_or, Nat.testBit_two_pow]
/-! places -/
def or_s (m : Nat) (e : Nat → Nat) (s k : Nat) : Nat := if k / 6 % 3 < m ∧ s.testBit (k % 6) = true then s ||| 2 ^ pm_im (e (k / 6 % 3)) (k % 6) else s
noncomputable def or_n (m : Nat) (e : Nat → Nat) (s k : Nat) : Nat := Nat.rec s (fun k s => or_s m e s k) k
theorem or_1 (m : Nat) (e : Nat → Nat) (s k : Nat) : or_n m e s (k + 1) = or_s m e (or_n m e s k) k := rfl
section
variable {m n : Nat} {e a : Nat → Nat}
theorem or_lt {s : Nat} (hs : s < 2 ^ 8) : ∀ k, or_n m e s k < 2 ^ 8 := by
  intro k
  induction k with
  | zero => exact hs
  | succ k ih =>
    rw [or_1, or_s]
    split
    · exact Nat.or_lt_two_pow ih (Nat.pow_lt_pow_right (by decide) (pm_im8 _ _))
    · exact ih
theorem or_rd (s r : Nat) : ∀ t, t ≤ 18 → rs_I 6 m (fun i x => pm_im (e i) x) (fun t => t / 6) (fun t => t % 6) (or_n m e s (18 * r)).testBit (or_n m e s (18 * r + t)).testBit t := by
  intro t
  induction t with
  | zero => intro _; exact rs_0 _ _ _ _ _ _
  | succ t ih =>
    intro ht
    have I := ih (by omega)
    have e1 : (18 * r + t) / 6 % 3 = t / 6 := by omega
    have e2 : (18 * r + t) % 6 = t % 6 := by omega
    rw [show 18 * r + (t + 1) = (18 * r + t) + 1 by omega, or_1, or_s, e1, e2]
    split
    · rename_i h
      exact rs_add I h.1 (Nat.mod_lt _ (by decide)) h.2 (fun x => rs_or _ _ _)
    · rename_i h
      exact rs_skip I (Nat.mod_lt _ (by decide)) h
theorem or_R (G : gr_G m e n a) (hm : m ≤ 3) {i : Nat} (hi : i < 6) : ∀ r, rs_R 6 m (fun i x => pm_im (e i) x) i r (or_n m e (2 ^ i) (18 * r)).testBit := by
  intro r
  induction r with
  | zero => exact rs_R0 hi (fun x => Nat.testBit_two_pow)
  | succ r ih =>
    refine rs_R1 hi (fun x hx _ q hq => (G.1 q hq).2.1 x hx) ih (rs_end (K := 18) (or_rd (2 ^ i) r 18 (by omega)) (fun q hq w hw => ⟨6 * q + w, by omega, ?_, ?_⟩))
    · show (6 * q + w) / 6 = q; omega
    · show (6 * q + w) % 6 = w; omega
theorem or_min (G : gr_G m e n a) (hm : m ≤ 3) {i : Nat} (hi : i < 6) : or_n m e (2 ^ i) 108 % 2 ^ i = 0 ↔ gk_r a n i = i := by
  have R := or_R G hm hi 6
  rw [show 18 * 6 = 108 from rfl] at R
  have hC := R.1.resolve_right (fun z => by have := cs_cle (or_n m e (2 ^ i) 108).testBit 6; omega)
  rw [rs_bits]
  exact cl_min G (S := fun _ => true) (B := pm_im) ac_p1 ac_p2 ac_p3 hi rfl R.2.1 hC R.2.2
theorem or_all (G : gr_G m e n a) (hm : m ≤ 3) : cs_c (fun i => decide (or_n m e (2 ^ i) 108 % 2 ^ i = 0)) 6 = gk_o a n := cs_ccongr fun i hi => by
  by_cases h : gk_r a n i = i
  · rw [decide_eq_true ((or_min G hm hi).mpr h), cs_beqt h]
  · rw [decide_eq_false (fun z => h ((or_min G hm hi).mp z)), cs_beqf h]
end
/-! pairs -/
def pr_s (e : Nat → Nat) (s k : Nat) : Nat := if s.testBit (k % 36) = true then s ||| 2 ^ ac_q (e (k / 36)) (k % 36) else s
noncomputable def pr_t (e : Nat → Nat) (s k : Nat) : Nat := Nat.rec s (fun k s => pr_s e s k) k
theorem pr_t1 (e : Nat → Nat) (s k : Nat) : pr_t e s (k + 1) = pr_s e (pr_t e s k) k := rfl
noncomputable def pr_n (m : Nat) (e : Nat → Nat) (s r : Nat) : Nat := Nat.rec s (fun _ s => pr_t e s (36 * m)) r
theorem pr_n1 (m : Nat) (e : Nat → Nat) (s r : Nat) : pr_n m e s (r + 1) = pr_t e (pr_n m e s r) (36 * m) := rfl
section
variable {m n : Nat} {e a : Nat → Nat}
theorem ac_qlt {g x : Nat} (hg : pm_P g) (hx : x < 36) : ac_q g x < 36 := by
  have h1 := hg.2.1 (x / 6) (by omega)
  have h2 := hg.2.1 (x % 6) (by omega)
  unfold ac_q
  split <;> omega
theorem pr_lt (he : ∀ i, i < m → pm_P (e i)) {s : Nat} (hs : s < 2 ^ 36) : ∀ k, k ≤ 36 * m → pr_t e s k < 2 ^ 36 := by
  intro k
  induction k with
  | zero => intro _; exact hs
  | succ k ih =>
    intro hk
    rw [pr_t1, pr_s]
    split
    · exact Nat.or_lt_two_pow (ih (by omega)) (Nat.pow_lt_pow_right (by decide) (ac_qlt (he _ (by omega)) (by omega)))
    · exact ih (by omega)
theorem pr_nlt (he : ∀ i, i < m → pm_P (e i)) {s : Nat} (hs : s < 2 ^ 36) : ∀ r, pr_n m e s r < 2 ^ 36 := by
  intro r
  induction r with
  | zero => exact hs
  | succ r ih => rw [pr_n1]; exact pr_lt he ih _ (Nat.le_refl _)
theorem pr_rd (s : Nat) : ∀ t, t ≤ 36 * m → rs_I 36 m (fun i x => ac_q (e i) x) (fun t => t / 36) (fun t => t % 36) s.testBit (pr_t e s t).testBit t := by
  intro t
  induction t with
  | zero => intro _; exact rs_0 _ _ _ _ _ _
  | succ t ih =>
    intro ht
    have I := ih (by omega)
    rw [pr_t1, pr_s]
    split
    · rename_i h
      exact rs_add I (by show t / 36 < m; omega) (Nat.mod_lt _ (by decide)) h (fun x => rs_or _ _ _)
    · rename_i h
      exact rs_skip I (Nat.mod_lt _ (by decide)) (fun z => h z.2)
theorem pr_S (he : ∀ i, i < m → pm_P (e i)) {x0 r : Nat} {T : Nat → Bool} (h0 : x0 < 36) (hS : ac_S x0 = true) (R : rs_R 36 m (fun i x => ac_q (e i) x) x0 r T) : ∀ x, x < 36 → T x = true → ac_S x = true := fun x hx hT =>
  (R.2.2 x hx hT (fun y => y < 36 ∧ ac_S y = true) ⟨h0, hS⟩ (fun y hy i hi => ac_q1 _ (he i hi) y hy.1 hy.2)).2
theorem pr_R (he : ∀ i, i < m → pm_P (e i)) {x0 : Nat} (h0 : x0 < 36) (hS : ac_S x0 = true) : ∀ r, rs_R 36 m (fun i x => ac_q (e i) x) x0 r (pr_n m e (2 ^ x0) r).testBit := by
  intro r
  induction r with
  | zero => exact rs_R0 h0 (fun x => Nat.testBit_two_pow)
  | succ r ih =>
    refine rs_R1 h0 (fun x hx hT q hq => (ac_q1 _ (he q hq) x hx (pr_S he h0 hS ih x hx hT)).1) ih (rs_end (K := 36 * m) (pr_rd _ (36 * m) (Nat.le_refl _)) (fun q hq w hw => ⟨36 * q + w, by omega, ?_, ?_⟩))
    · show (36 * q + w) / 36 = q; omega
    · show (36 * q + w) % 36 = w; omega
theorem pr_15 : cs_c ac_S 36 = 15 := by decide +kernel
theorem pr_min (G : gr_G m e n a) {x : Nat} (hx : x < 36) (hS : ac_S x = true) : pr_n m e (2 ^ x) 15 % 2 ^ x = 0 ↔ bu_lo (fun k x => ac_q (a k) x) x n = x := by
  have R := pr_R G.1 hx hS 15
  have hC := R.1.resolve_right (fun z => by
    have := cs_cmono (n := 36) (pr_S G.1 hx hS R)
    rw [pr_15] at this
    omega)
  rw [rs_bits]
  exact cl_min G (S := ac_S) (B := ac_q) ac_q1 ac_q2 ac_q3 hx hS R.2.1 hC R.2.2
noncomputable def pr_Q (m : Nat) (e : Nat → Nat) (x : Nat) : Bool := ac_S x && decide (pr_n m e (2 ^ x) 15 % 2 ^ x = 0)
theorem pr_all (G : gr_G m e n a) : cs_c (pr_Q m e) 36 = gk_p a n := cs_ccongr fun x hx => by
  unfold pr_Q
  cases hS : ac_S x with
  | false => rfl
  | true =>
    rw [Bool.true_and, Bool.true_and]
    by_cases h : bu_lo (fun k x => ac_q (a k) x) x n = x
    · rw [decide_eq_true ((pr_min G hx hS).mpr h), cs_beqt h]
    · rw [decide_eq_false (fun z => h ((pr_min G hx hS).mp z)), cs_beqf h]
end
end
section
/-! the walks over those sets -/
theorem yn_tb {s w : Nat} (hs : s < 2 ^ 31) (hw : w < 32) : ((nI s >>> (nI w &&& 31)) &&& 1) = 1 ↔ s.testBit w = true := by
  rw [xn_bit hs hw, Nat.testBit_eq_decide_div_mod_eq, decide_eq_true_eq]
  exact nI_eq (b := 1) (by omega) (by decide)
theorem yn_low {s i : Nat} (hs : s < 2 ^ 31) (hi : i < 31) : (nI s &&& (((1 : Int32) <<< (nI i &&& 31)) - 1)) = 0 ↔ s % 2 ^ i = 0 := by
  have hp := Nat.two_pow_pos i
  have e1 : ((1 : Int32) <<< (nI i &&& 31)) - 1 = nI (2 ^ i - 1) := by
    rw [xn_sl (by omega)]; exact pk_sub (b := 1) hp
  have h2 : 2 ^ i < 2 ^ 31 := Nat.pow_lt_pow_right (by decide) hi
  have h3 : s % 2 ^ i < 2 ^ i := Nat.mod_lt _ hp
  rw [e1, pk_andN (by omega) i (pk_tn (by omega))]
  exact nI_eq (b := 0) (by omega) (by decide)
theorem yn_3r {a : Nat} (h : a < 2 ^ 31) : nI a - nI a / 3 * 3 = nI (a % 3) := pk_rem (d := 3) h (by decide) (by decide)
theorem yn_36r {a : Nat} (h : a < 2 ^ 31) : nI a - nI a / 36 * 36 = nI (a % 36) := pk_rem (d := 36) h (by decide) (by decide)
theorem yn_36d {a : Nat} (h : a < 2 ^ 31) : nI a / 36 = nI (a / 36) := pk_div (d := 36) h (by decide) (by decide)
theorem yn_sh {k : Nat} (hk : k < 64) : (1 : Int64) <<< ((nI k).toInt64 &&& 63) = lN (2 ^ k) := by
  have := wb_shl 1 hk
  rw [Nat.one_mul] at this
  exact this
theorem yn_bitL {s k : Nat} (hs : s < 2 ^ 36) (hk : k < 64) : ((lN s >>> ((nI k).toInt64 &&& 63)) &&& 1) = 1 ↔ s.testBit k = true := by
  have hD : (((nI k).toInt64 &&& 63).toBitVec.smod 64).toNat = k := by
    rw [wb_c k hk, wb_tb, wb_sm k hk, BitVec.toNat_ofNat]
    exact Nat.mod_eq_of_lt (by omega)
  have h2 : s / 2 ^ k ≤ s := Nat.div_le_self _ _
  rw [pf_shr hD (by omega), wb_a1 (by omega), Nat.testBit_eq_decide_div_mod_eq, decide_eq_true_eq]
  exact pk_lEQ (b := 1) (by omega) (by decide)
theorem yn_lowL {s k : Nat} (hs : s < 2 ^ 36) (hk : k < 36) : (lN s &&& (((1 : Int64) <<< ((nI k).toInt64 &&& 63)) - 1)) = 0 ↔ s % 2 ^ k = 0 := by
  have hp := Nat.two_pow_pos k
  have e1 : ((1 : Int64) <<< ((nI k).toInt64 &&& 63)) - 1 = lN (2 ^ k - 1) := by
    rw [yn_sh (by omega)]; exact lN_sub (b := 1) hp
  have h2 : 2 ^ k < 2 ^ 36 := Nat.pow_lt_pow_right (by decide) hk
  have h3 : s % 2 ^ k < 2 ^ k := Nat.mod_lt _ hp
  rw [e1, wb_mask (by omega) (by omega)]
  exact pk_lEQ (b := 0) (by omega) (by decide)
section
variable {f_many f_colours f_size : Int32} {a_carries a_codes a_names a_waiting a_group a_listed : Nat → Int32}
variable {m : Nat} {e : Nat → Nat}
theorem yw_o64 {post : Int32 → Prop} {J4 J17 : Int32 → Int32 → Prop} {x1 x2 : Int32} {s k w q : Nat} (hq : q < 3) (hw : w < 6) (he : a_carries (6 * q + w) = nI (pm_im (e q) w)) (h : J17 (nI (s ||| 2 ^ pm_im (e q) w)) (nI (k + 1))) : wY_orbits_64 post J4 J17 x1 x2 (nI s) (nI k) (nI w) (nI q) 1 f_many f_colours f_size a_carries a_codes a_names a_waiting a_group a_listed := by
  have ec : (nI (6 * q + w)).toNatClampNeg = 6 * q + w := nI_clamp (by omega)
  have h8 := pm_im8 (e q) w
  unfold wY_orbits_64
  rw [xn_6, ec, he]
  refine br_f (by decide) ⟨pk_in (6 * q + w) 18 (by omega), nm_r (by rw [xn_sl (by omega), xn_or]) (nm_r (nI_1 k) h)⟩
theorem yw_o63 {post : Int32 → Prop} {J4 J17 : Int32 → Int32 → Prop} {x1 x2 x3 x5 x6 : Int32} {k : Nat} (h : J17 x3 (nI (k + 1))) : wY_orbits_63 post J4 J17 x1 x2 x3 (nI k) x5 x6 f_many f_colours f_size a_carries a_codes a_names a_waiting a_group a_listed := by
  unfold wY_orbits_63 wY_orbits_64
  exact br_t rfl (nm_r (nI_1 k) h)
theorem yw_orbits {post : Int32 → Prop} (hm : m ≤ 3) (he : ∀ i, i < m → ∀ j, j < 6 → a_carries (6 * i + j) = nI (pm_im (e i) j)) (h : post (nI (cs_c (fun i => decide (or_n m e (2 ^ i) 108 % 2 ^ i = 0)) 6))) : wpY_orbits post (nI m, f_colours, f_size, a_carries, a_codes, a_names, a_waiting, a_group, a_listed) := by
  have inner : ∀ (J : Int32 → Int32 → Prop) (i X : Nat), i < 6 → J (nI (X + (decide (or_n m e (2 ^ i) 108 % 2 ^ i = 0)).toNat)) (nI (i + 1)) → ∀ d k, k + d = 108 → wY_orbits_17 post J (nI X) (nI i) (nI m) f_colours f_size a_carries a_codes a_names a_waiting a_group a_listed (d + 1) (nI (or_n m e (2 ^ i) k)) (nI k) := by
    intro J i X hi hJ d
    have hs : 2 ^ i < 2 ^ 8 := Nat.pow_lt_pow_right (by decide) (by omega)
    induction d with
    | zero =>
      intro k hk
      have hk : k = 108 := by omega
      subst hk
      have hl : or_n m e (2 ^ i) 108 < 2 ^ 8 := or_lt hs 108
      refine pk_le 108 108 (fun _ => ek_if (yn_low (by omega) (by omega)) (fun z => nm_r (nI_1 X) (nm_r (nI_1 i) ?_)) (fun z => nm_r (nI_1 i) ?_)) (fun h => absurd h (by omega))
      · rw [decide_eq_true z] at hJ; exact hJ
      · rw [decide_eq_false z] at hJ; exact hJ
    | succ d ih =>
      intro k hk
      have hl : or_n m e (2 ^ i) k < 2 ^ 8 := or_lt hs k
      have hn := ih (k + 1) (by omega)
      rw [or_1, or_s] at hn
      have e2 : (nI k / 6) - (nI k / 6) / 3 * 3 = nI (k / 6 % 3) := by rw [xn_6d (by omega), yn_3r (by omega)]
      refine pk_le 108 k (fun h => absurd h (by omega)) (fun _ => ⟨by decide, nm_r (xn_6r (by omega)) ⟨by decide, by decide, nm_r e2 (pk_le m (k / 6 % 3) (fun z => yw_o63 ?_) (fun z => ek_if (yn_tb (by omega) (by omega)) (fun hb => yw_o64 (e := e) (by omega) (by omega) (he _ z _ (by omega)) ?_) (fun hb => yw_o63 ?_)))⟩⟩)
      · rw [if_neg (by omega)] at hn; exact hn
      · rw [if_pos ⟨z, hb⟩] at hn; exact hn
      · rw [if_neg (fun q => hb q.2)] at hn; exact hn
  have key : ∀ d i, i + d = 6 → wY_orbits_4 post (nI m) f_colours f_size a_carries a_codes a_names a_waiting a_group a_listed (d + 1) (nI (cs_c (fun i => decide (or_n m e (2 ^ i) 108 % 2 ^ i = 0)) i)) (nI i) := by
    intro d
    induction d with
    | zero =>
      intro i hi
      have hi : i = 6 := by omega
      subst hi
      exact pk_le 6 6 (fun _ => h) (fun h => absurd h (by omega))
    | succ d ih =>
      intro i hi
      exact pk_le 6 i (fun h => absurd h (by omega)) (fun _ => nm_r (xn_sl (by omega)) ⟨109, inner _ i _ (by omega) (ih (i + 1) (by omega)) 108 0 rfl⟩)
  exact ⟨7, key 6 0 rfl⟩
theorem yw_p131 {post : Int64 → Prop} {J12 J22 : Int64 → Int32 → Prop} {x5 : Int32} {s k lo hi : Nat} {b : Bool} (hs : s < 2 ^ 36) (hq : 6 * lo + hi < 36) (h : J22 (lN (if b = true then s ||| 2 ^ (6 * lo + hi) else s)) (nI (k + 1))) : wY_pairsFrom_131 post J12 J22 (lN s) x5 (nI k) (nI lo) (nI hi) (nI b.toNat) f_many f_colours f_size a_carries a_codes a_names a_waiting a_group a_listed := by
  have h2 : 2 ^ (6 * lo + hi) < 2 ^ 36 := Nat.pow_lt_pow_right (by decide) hq
  unfold wY_pairsFrom_131
  cases b with
  | false => exact br_t (by decide) (nm_r (nI_1 k) h)
  | true =>
    refine br_f (by decide) (nm_r ?_ (nm_r (nI_1 k) h))
    rw [xn_6, yn_sh (by omega), wb_or (by omega) (by omega)]; rfl
theorem yw_p110 {post : Int64 → Prop} {J12 J22 : Int64 → Int32 → Prop} {x5 : Int32} {s k lo hi : Nat} (hs : s < 2 ^ 36) (hk : k < 2 ^ 31) (hq : 6 * lo + hi < 36) (h : J22 (lN (if s.testBit (k % 36) = true then s ||| 2 ^ (6 * lo + hi) else s)) (nI (k + 1))) : wY_pairsFrom_110 post J12 J22 (lN s) x5 (nI k) (nI lo) (nI hi) f_many f_colours f_size a_carries a_codes a_names a_waiting a_group a_listed := by
  unfold wY_pairsFrom_110
  rw [yn_36r hk]
  refine ⟨by decide, ek_if (yn_bitL hs (by omega)) (fun z => yw_p131 (b := true) hs hq ?_) (fun z => yw_p131 (b := false) hs hq ?_)⟩
  · rw [if_pos z] at h; exact h
  · rw [if_neg z] at h; exact h
theorem yw_pairsFrom {post : Int64 → Prop} {i k : Nat} (hm : m ≤ 3) (hP : ∀ i, i < m → pm_P (e i)) (he : ∀ i, i < m → ∀ j, j < 6 → a_carries (6 * i + j) = nI (pm_im (e i) j)) (hk : 6 * i + k < 36) (h : post (lN (pr_n m e (2 ^ (6 * i + k)) 15))) : wpY_pairsFrom post (nI m, f_colours, f_size, a_carries, a_codes, a_names, a_waiting, a_group, a_listed) (nI i) (nI k) := by
  have hs0 : 2 ^ (6 * i + k) < 2 ^ 36 := Nat.pow_lt_pow_right (by decide) hk
  have inner : ∀ (J : Int64 → Int32 → Prop) (r s : Nat), s < 2 ^ 36 → J (lN (pr_t e s (36 * m))) (nI (r + 1)) → ∀ d t, t + d = 36 * m → wY_pairsFrom_22 post J (nI r) (nI m) f_colours f_size a_carries a_codes a_names a_waiting a_group a_listed (d + 1) (lN (pr_t e s t)) (nI t) := by
    intro J r s hs hJ d
    have e36 : (36 : Int32) * nI m = nI (36 * m) := pk_mul 36 m
    induction d with
    | zero =>
      intro t ht
      have ht : t = 36 * m := by omega
      subst ht
      unfold wY_pairsFrom_22
      rw [e36]
      exact pk_le (36 * m) (36 * m) (fun _ => nm_r (nI_1 r) hJ) (fun h => absurd h (by omega))
    | succ d ih =>
      intro t ht
      have hl := pr_lt hP hs t (by omega)
      have hn := ih (t + 1) (by omega)
      rw [pr_t1, pr_s] at hn
      have hq : t / 36 < m := by omega
      have h1 := (hP _ hq).2.1 (t % 36 / 6) (by omega)
      have h2 := (hP _ hq).2.1 (t % 36 % 6) (by omega)
      have c1 := he _ hq (t % 36 / 6) (by omega)
      have c2 := he _ hq (t % 36 % 6) (by omega)
      have i1 : (6 : Int32) * nI (t / 36) + (nI t - nI t / 36 * 36) / 6 = nI (6 * (t / 36) + t % 36 / 6) := by
        rw [yn_36r (by omega), xn_6d (by omega), xn_6]
      have i2 : (6 : Int32) * nI (t / 36) + (nI t - nI t / 6 * 6) = nI (6 * (t / 36) + t % 36 % 6) := by
        rw [xn_6r (by omega), xn_6]; exact congrArg nI (by omega)
      have k1 : (nI (6 * (t / 36) + t % 36 / 6)).toNatClampNeg = 6 * (t / 36) + t % 36 / 6 := nI_clamp (by omega)
      have k2 : (nI (6 * (t / 36) + t % 36 % 6)).toNatClampNeg = 6 * (t / 36) + t % 36 % 6 := nI_clamp (by omega)
      unfold wY_pairsFrom_22
      rw [e36]
      refine pk_le (36 * m) t (fun h => absurd h (by omega)) (fun _ => ⟨by decide, nm_r (yn_36d (by omega)) ?_⟩)
      rw [i1, i2, k1, k2, c1, c2]
      refine ⟨by decide, by decide, pk_in (6 * (t / 36) + t % 36 / 6) 18 (by omega), nm_e ⟨by decide, pk_in (6 * (t / 36) + t % 36 % 6) 18 (by omega), nm_e ?_⟩⟩
      unfold ac_q at hn
      refine pk_le (pm_im (e (t / 36)) (t % 36 % 6)) (pm_im (e (t / 36)) (t % 36 / 6)) (fun z => ?_) (fun z => ?_)
      · unfold wY_pairsFrom_94
        refine pk_le (pm_im (e (t / 36)) (t % 36 % 6)) (pm_im (e (t / 36)) (t % 36 / 6)) (fun _ => yw_p110 hl (by omega) (by omega) ?_) (fun z' => absurd z' (by omega))
        rw [if_neg (show ¬ pm_im (e (t / 36)) (t % 36 / 6) < pm_im (e (t / 36)) (t % 36 % 6) by omega)] at hn
        exact hn
      · unfold wY_pairsFrom_94
        refine pk_le (pm_im (e (t / 36)) (t % 36 % 6)) (pm_im (e (t / 36)) (t % 36 / 6)) (fun z' => absurd z' (by omega)) (fun _ => yw_p110 hl (by omega) (by omega) ?_)
        rw [if_pos z] at hn
        exact hn
  have key : ∀ d r, r + d = 15 → wY_pairsFrom_12 post (nI m) f_colours f_size a_carries a_codes a_names a_waiting a_group a_listed (d + 1) (lN (pr_n m e (2 ^ (6 * i + k)) r)) (nI r) := by
    intro d
    induction d with
    | zero =>
      intro r hr
      have hr : r = 15 := by omega
      subst hr
      exact pk_le 15 15 (fun _ => h) (fun h => absurd h (by omega))
    | succ d ih =>
      intro r hr
      exact pk_le 15 r (fun h => absurd h (by omega)) (fun _ => ⟨36 * m + 1, inner _ r _ (pr_nlt hP hs0 r) (ih (r + 1) (by omega)) (36 * m) 0 (by omega)⟩)
  have e0 : (1 : Int64) <<< (((6 : Int32) * nI i + nI k).toInt64 &&& 63) = lN (2 ^ (6 * i + k)) := by rw [xn_6, yn_sh (by omega)]
  exact nm_r e0 ⟨16, key 15 0 rfl⟩
theorem pr_row {i : Nat} (hi : i < 6) : ∀ j, j ≤ i + 1 → cs_c (pr_Q m e) (6 * i + j) = cs_c (pr_Q m e) (6 * i) := by
  intro j
  induction j with
  | zero => intro _; rfl
  | succ j ih =>
    intro hj
    have hS : ac_S (6 * i + j) = false := by
      rw [← Bool.not_eq_true, ac_Si]; omega
    rw [show 6 * i + (j + 1) = (6 * i + j) + 1 by omega, cs_c1, ih (by omega), pr_Q, hS, Bool.false_and]
    rfl
theorem yw_pairKinds {post : Int32 → Prop} (hm : m ≤ 3) (hP : ∀ i, i < m → pm_P (e i)) (he : ∀ i, i < m → ∀ j, j < 6 → a_carries (6 * i + j) = nI (pm_im (e i) j)) (h : post (nI (cs_c (pr_Q m e) 36))) : wpY_pairKinds post (nI m, f_colours, f_size, a_carries, a_codes, a_names, a_waiting, a_group, a_listed) := by
  have inner : ∀ (J : Int32 → Int32 → Prop) (i : Nat), i < 6 → J (nI (cs_c (pr_Q m e) (6 * (i + 1)))) (nI (i + 1)) → ∀ d k, k + d = 6 → i < k → wY_pairKinds_14 post J (nI i) (nI m) f_colours f_size a_carries a_codes a_names a_waiting a_group a_listed (d + 1) (nI (cs_c (pr_Q m e) (6 * i + k))) (nI k) := by
    intro J i hi hJ d
    induction d with
    | zero =>
      intro k hk hik
      have hk : k = 6 := by omega
      subst hk
      exact pk_le 6 6 (fun _ => nm_r (nI_1 i) hJ) (fun h => absurd h (by omega))
    | succ d ih =>
      intro k hk hik
      have hn := ih (k + 1) (by omega) (by omega)
      have hs0 : 2 ^ (6 * i + k) < 2 ^ 36 := Nat.pow_lt_pow_right (by decide) (by omega)
      have hS : ac_S (6 * i + k) = true := by rw [ac_Si]; omega
      have hl := pr_nlt hP hs0 15
      rw [show 6 * i + (k + 1) = (6 * i + k) + 1 by omega, cs_c1, pr_Q, hS, Bool.true_and] at hn
      refine pk_le 6 k (fun h => absurd h (by omega)) (fun _ => yw_pairsFrom hm hP he (by omega) ?_)
      rw [xn_6]
      refine ek_if (yn_lowL hl (by omega)) (fun z => nm_r (nI_1 _) (nm_r (nI_1 k) ?_)) (fun z => nm_r (nI_1 k) ?_)
      · rw [decide_eq_true z] at hn; exact hn
      · rw [decide_eq_false z] at hn; exact hn
  have key : ∀ d i, i + d = 6 → wY_pairKinds_4 post (nI m) f_colours f_size a_carries a_codes a_names a_waiting a_group a_listed (d + 1) (nI (cs_c (pr_Q m e) (6 * i))) (nI i) := by
    intro d
    induction d with
    | zero =>
      intro i hi
      have hi : i = 6 := by omega
      subst hi
      exact pk_le 6 6 (fun _ => h) (fun h => absurd h (by omega))
    | succ d ih =>
      intro i hi
      have k0 := inner _ i (by omega) (ih (i + 1) (by omega)) d (i + 1) (by omega) (by omega)
      rw [pr_row (by omega) (i + 1) (Nat.le_refl _)] at k0
      exact pk_le 6 i (fun h => absurd h (by omega)) (fun _ => nm_r (nI_1 i) ⟨_, k0⟩)
  exact ⟨7, key 6 0 rfl⟩
end
end
section
/-! the relation -/
def rl_G (m : Nat) (e : Nat → Nat) (gen cr cd : Nat → Int32) : Prop := m ≤ 3 ∧ ∀ i, i < m → pm_P (e i) ∧ gen i = nI (e i) ∧ cd i = nI (pm_s (e i)) ∧ ∀ j, j < 6 → cr (6 * i + j) = nI (pm_im (e i) j)
/-- the same generators and colours; if listed, then the component's lists are the group's -/
def i_Rel (_ : Nat) (u : SX) (v : SY) : Prop := match u, v with
  | (f_count, f_c, f_listed, f_size, f_shapes, a_generator, a_group, a_table, a_shape, a_shapeCount, a_ways), (f_many, f_colours, g_size, a_carries, a_codes, a_names, a_waiting, b_group, a_listed) => ∃ (m c : Nat) (e : Nat → Nat), f_count = nI m ∧ f_many = nI m ∧ f_c = nI c ∧ f_colours = nI c ∧ 0 < c ∧ c ≤ 3 ∧ rl_G m e a_generator a_carries a_codes ∧ (f_listed = 0 ∨ (f_listed = 1 ∧ xl_L m e f_size f_shapes a_group a_shape a_shapeCount))
section
variable {f_count f_c f_listed f_size f_shapes : Int32} {a_generator a_group a_table a_shape a_shapeCount a_ways : Nat → Int32}
variable {f_many f_colours g_size : Int32} {a_carries a_codes a_names a_waiting b_group a_listed : Nat → Int32}
variable {m c : Nat} {e : Nat → Nat}
theorem rl_mk {k : Nat} (hc : 0 < c) (h3 : c ≤ 3) (hG : rl_G m e a_generator a_carries a_codes) (hL : f_listed = 0 ∨ (f_listed = 1 ∧ xl_L m e f_size f_shapes a_group a_shape a_shapeCount)) : i_Rel k (nI m, nI c, f_listed, f_size, f_shapes, a_generator, a_group, a_table, a_shape, a_shapeCount, a_ways) (nI m, nI c, g_size, a_carries, a_codes, a_names, a_waiting, b_group, a_listed) := by
  show ∃ (m' c' : Nat) (e' : Nat → Nat), nI m = nI m' ∧ nI m = nI m' ∧ nI c = nI c' ∧ nI c = nI c' ∧ 0 < c' ∧ c' ≤ 3 ∧ rl_G m' e' a_generator a_carries a_codes ∧ (f_listed = 0 ∨ (f_listed = 1 ∧ xl_L m' e' f_size f_shapes a_group a_shape a_shapeCount))
  exact ⟨m, c, e, rfl, rfl, rfl, rfl, hc, h3, hG, hL⟩
end
theorem rl_el {k : Nat} {P : SX → SY → Prop} (h : ∀ (m c : Nat) (e : Nat → Nat) (f_listed f_size f_shapes : Int32) (a_generator a_group a_table a_shape a_shapeCount a_ways : Nat → Int32) (g_size : Int32) (a_carries a_codes a_names a_waiting b_group a_listed : Nat → Int32), 0 < c → c ≤ 3 → rl_G m e a_generator a_carries a_codes → (f_listed = 0 ∨ (f_listed = 1 ∧ xl_L m e f_size f_shapes a_group a_shape a_shapeCount)) → P (nI m, nI c, f_listed, f_size, f_shapes, a_generator, a_group, a_table, a_shape, a_shapeCount, a_ways) (nI m, nI c, g_size, a_carries, a_codes, a_names, a_waiting, b_group, a_listed)) {u : SX} {v : SY} (I : i_Rel k u v) : P u v := by
  obtain ⟨f_count, f_c, f_listed, f_size, f_shapes, a_generator, a_group, a_table, a_shape, a_shapeCount, a_ways⟩ := u
  obtain ⟨f_many, f_colours, g_size, a_carries, a_codes, a_names, a_waiting, b_group, a_listed⟩ := v
  have I : ∃ (m c : Nat) (e : Nat → Nat), f_count = nI m ∧ f_many = nI m ∧ f_c = nI c ∧ f_colours = nI c ∧ 0 < c ∧ c ≤ 3 ∧ rl_G m e a_generator a_carries a_codes ∧ (f_listed = 0 ∨ (f_listed = 1 ∧ xl_L m e f_size f_shapes a_group a_shape a_shapeCount)) := I
  obtain ⟨m, c, e, rfl, rfl, rfl, rfl, hc, h3, hG, hL⟩ := I
  exact h m c e f_listed f_size f_shapes a_generator a_group a_table a_shape a_shapeCount a_ways g_size a_carries a_codes a_names a_waiting b_group a_listed hc h3 hG hL
/-! one name for both -/
noncomputable def gk_F (c : Nat) (a : Nat → Nat) (n x : Nat) : Nat := bu_lo (fun k x => ac_a c (a k) x) x n
section
variable {m n c : Nat} {e a : Nat → Nat}
theorem gk_self (G : gr_G m e n a) (hc : 0 < c) : nk_N m e c (gk_F c a n) := by
  have hA := ac_AT G hc
  refine ⟨fun x hx => bu_lo_self _ _ _, fun x hx i hi => ?_, fun x hx P p0 p1 => ?_⟩
  · obtain ⟨k0, hk0, ek0⟩ := G.2.2.2.1
    obtain ⟨j, hj, ej⟩ := G.2.2.2.2.1 k0 hk0 i hi
    rw [ek0, pm_idc (G.1 i hi)] at ej
    rw [← ej]
    exact bu_lo_inv hA hj hx rfl
  · obtain ⟨k, hk, ek⟩ := bu_lo_in hA hx rfl
    obtain ⟨l, hl, e1, e2⟩ := hA.2.2.2 k hk
    have hr : gk_F c a n x < c ^ 6 := Nat.lt_of_le_of_lt (bu_lo_self _ _ _) hx
    have h := gr_orb G (B := ac_a c) (S := fun _ => true) (ac_b1 hc (fun _ _ _ _ => rfl)) (ac_b2 hc _) (ac_b3 hc _) (T := P) hr rfl p0 (fun y _ _ hy i hi => p1 y hy i hi) l hl
    have e3 : ac_a c (a l) (gk_F c a n x) = x := by
      have := e1 x hx rfl
      rw [gk_F, ek]
      exact this
    rw [e3] at h
    exact h
theorem gk_Fle (G : gr_G m e n a) (hc : 0 < c) : ∀ y, y < c ^ 6 → gk_F c a n y ≤ y := (gk_self G hc).1
end
section
variable {f_many f_colours f_size : Int32} {a_carries a_codes a_names a_waiting a_group a_listed : Nat → Int32}
variable {m n c : Nat} {e a : Nat → Nat}
theorem yw_names {post : SY → Prop} (G : gr_G m e n a) (hm : m ≤ 3) (hc : 0 < c) (h3 : c ≤ 3) (he : ∀ i, i < m → ∀ j, j < 6 → a_carries (6 * i + j) = nI (pm_im (e i) j)) (h : ∀ nm wt, (∀ y, y < c ^ 6 → nm y = nI (gk_F c a n y)) → post (nI m, nI c, f_size, a_carries, a_codes, nm, wt, a_group, a_listed)) : wpY_findKinds post (nI m, nI c, f_size, a_carries, a_codes, a_names, a_waiting, a_group, a_listed) :=
  yw_findKinds hm hc h3 G.1 he (fun f nm wt H hn => h nm wt (fun y hy => by rw [hn y hy, gk_F, nk_lo G hc H hy]))
end
theorem i_up {k : Nat} {u : SX} {v : SY} (h : i_Rel k u v) : i_Rel (k + 3) u v := h
theorem i_vc0 : wpX_init (fun u => wpY_init (fun v => i_Rel 0 u v)) := by
  show i_Rel 0 (nI 0, nI 2, 0, 0, 0, (fun _ => 0), (fun _ => 0), (fun _ => 0), (fun _ => 0), (fun _ => 0), (fun _ => 0)) (nI 0, nI 2, 0, (fun _ => 0), (fun _ => 0), (fun _ => 0), (fun _ => 0), (fun _ => 0), (fun _ => 0))
  exact rl_mk (e := fun _ => 0) (by decide) (by decide) ⟨by decide, fun i hi => by omega⟩ (Or.inl rfl)
/-! generators and colours -/
theorem rl_perm {g : Nat} (h : in_s g 6 = 63) : pm_P (pm_oc (ac_d 6 g)) := by
  have h6 : ∀ i, i < 6 → ac_d 6 g i < 6 := fun i _ => ac_dlt (by decide)
  have h8 : ∀ i, i < 6 → ac_d 6 g i < 8 := fun i hi => Nat.lt_trans (h6 i hi) (by decide)
  have hd := kf_o (d := ac_d 6 g) h6 h
  refine ⟨pm_oclt _ h8, fun i hi => ?_, fun i hi j hj z => ?_⟩
  · rw [pm_imoc _ h8 i hi]; exact h6 i hi
  · rw [pm_imoc _ h8 i hi, pm_imoc _ h8 j hj] at z
    exact hd i hi j hj z
theorem rl_code {g : Nat} (hg : g < 46656) : pm_s (pm_oc (ac_d 6 g)) = g := by
  have h8 : ∀ i, i < 6 → ac_d 6 g i < 8 := fun i hi => Nat.lt_trans (ac_dlt (by decide)) (by decide)
  rw [pm_s, pm_sxc (g := ac_d 6 g) (fun i hi => pm_imoc _ h8 i hi), pm_sxs, ac_sum]
  exact Nat.mod_eq_of_lt hg
theorem i_vc_add {k : Nat} {u : SX} {v : SY} (I : i_Rel k u v) (hk : k + 3 ≤ 1536) (v1 : Int32) : wpX_add (fun r u' => wpY_add (fun r' v' => r' = r ∧ i_Rel (k + 3) u' v') v v1) u v1 := by
  refine rl_el (P := fun u v => wpX_add (fun r u' => wpY_add (fun r' v' => r' = r ∧ i_Rel (k + 3) u' v') v v1) u v1) ?_ I
  intro m c e f_listed f_size f_shapes a_generator a_group a_table a_shape a_shapeCount a_ways g_size a_carries a_codes a_names a_waiting b_group a_listed hc h3 hG hL
  obtain ⟨hm, hg⟩ := hG
  have bad : (∀ g, g < 46656 → v1 = nI g → in_s g 6 ≠ 63) → wpY_add (fun r' v' => r' = -1 ∧ i_Rel (k + 3) (nI m, nI c, f_listed, f_size, f_shapes, a_generator, a_group, a_table, a_shape, a_shapeCount, a_ways) v') (nI m, nI c, g_size, a_carries, a_codes, a_names, a_waiting, b_group, a_listed) v1 := by
    intro hb
    unfold wpY_add
    dsimp only
    exact yw_isR (fun g hg1 e1 e2 => absurd e2 (hb g hg1 e1)) (fun _ => br_t rfl ⟨rfl, rl_mk hc h3 ⟨hm, hg⟩ hL⟩)
  unfold wpX_add
  dsimp only
  refine br_c (fun h0 => ?_) (fun h0 => ?_)
  · obtain ⟨g, hgl, rfl⟩ := nI_of (yn_ge.mp h0)
    refine xw_inside hgl (fun hs hlt => ?_) (fun hno => ?_)
    · have hP := rl_perm hs
      refine br_t (nI_pos' (pm_31 hP)) (pk_eq m 3 (fun z => ?_) (fun z => ?_))
      · unfold wpY_add
        dsimp only
        exact yw_isR (fun _ _ _ _ => br_f (by decide) (pk_eq m 3 (fun _ => ⟨rfl, rl_mk hc h3 ⟨hm, hg⟩ hL⟩) (fun z' => absurd z z'))) (fun hn => absurd hs (hn g hlt rfl))
      · have ec : (nI m).toNatClampNeg = m := nI_clamp (by omega)
        refine ⟨pk_in m 3 (by omega), nm_r (by rw [ec]) (nm_r (nI_1 m) ?_)⟩
        unfold wpY_add
        dsimp only
        refine yw_isR (fun _ _ _ _ => br_f (by decide) (pk_eq m 3 (fun z' => absurd z' z) (fun _ => yw_add23 (by omega) hgl (fun cr c1 c2 => ⟨rfl, ?_⟩)))) (fun hn => absurd hs (hn g hlt rfl))
        refine rl_mk (e := en_x e m (pm_oc (ac_d 6 g))) hc h3 ⟨by omega, fun i hi => ?_⟩ (Or.inl rfl)
        by_cases ei : i = m
        · subst ei
          rw [en_xn, pk_us, pk_us, rl_code hlt]
          refine ⟨hP, rfl, rfl, fun j hj => ?_⟩
          rw [c1 j hj, pm_imoc _ (fun i hi => Nat.lt_trans (ac_dlt (by decide)) (by decide)) j hj]
        · have hi' : i < m := by omega
          obtain ⟨g1, g2, g3, g4⟩ := hg i hi'
          rw [en_xo hi', pk_un ei, pk_un ei]
          exact ⟨g1, g2, g3, fun j hj => by rw [c2 _ (by omega)]; exact g4 j hj⟩
    · refine br_f (by decide) (bad (fun g' hg' e1 e2 => hno ?_))
      have := (nI_eq hgl (by omega)).mp e1
      subst this
      exact ⟨e2, hg'⟩
  · exact br_f (by decide) (bad (fun g hg1 e1 => absurd (by rw [e1]; exact nI_pos' (by omega)) h0))
theorem i_vc_remove {k : Nat} {u : SX} {v : SY} (I : i_Rel k u v) (hk : k + 3 ≤ 1536) : wpX_remove (fun r u' => wpY_remove (fun r' v' => r' = r ∧ i_Rel (k + 3) u' v') v) u := by
  refine rl_el (P := fun u v => wpX_remove (fun r u' => wpY_remove (fun r' v' => r' = r ∧ i_Rel (k + 3) u' v') v) u) ?_ I
  intro m c e f_listed f_size f_shapes a_generator a_group a_table a_shape a_shapeCount a_ways g_size a_carries a_codes a_names a_waiting b_group a_listed hc h3 hG hL
  obtain ⟨hm, hg⟩ := hG
  refine pk_eq m 0 (fun z => pk_eq m 0 (fun _ => ⟨rfl, rl_mk hc h3 ⟨hm, hg⟩ hL⟩) (fun z' => absurd z z')) (fun z => ?_)
  obtain ⟨l, rfl⟩ : ∃ l, m = l + 1 := ⟨m - 1, by omega⟩
  have ec : (nI l).toNatClampNeg = l := nI_clamp (by omega)
  obtain ⟨g1, g2, g3, g4⟩ := hg l (by omega)
  refine nm_r (nI_pred l) ⟨pk_in l 3 (by omega), ?_⟩
  rw [ec, g2]
  refine xw_outside (pm_31 g1) (pk_eq (l + 1) 0 (fun z' => absurd z' z) (fun _ => nm_r (nI_pred l) ⟨pk_in l 3 (by omega), ?_⟩))
  rw [ec, g3]
  exact ⟨rfl, rl_mk hc h3 ⟨by omega, fun i hi => hg i (by omega)⟩ (Or.inl rfl)⟩
theorem i_vc_colours {k : Nat} {u : SX} {v : SY} (I : i_Rel k u v) (hk : k + 3 ≤ 1536) (v1 : Int32) : wpX_colours (fun r u' => wpY_colours (fun r' v' => r' = r ∧ i_Rel (k + 3) u' v') v v1) u v1 := by
  refine rl_el (P := fun u v => wpX_colours (fun r u' => wpY_colours (fun r' v' => r' = r ∧ i_Rel (k + 3) u' v') v v1) u v1) ?_ I
  intro m c e f_listed f_size f_shapes a_generator a_group a_table a_shape a_shapeCount a_ways g_size a_carries a_codes a_names a_waiting b_group a_listed hc h3 hG hL
  refine br_c (fun z => br_t z ⟨rfl, rl_mk hc h3 hG hL⟩) (fun z => br_c (fun z2 => br_f z (br_t z2 ⟨rfl, ?_⟩)) (fun z2 => br_f z (br_f z2 ⟨rfl, rl_mk hc h3 hG hL⟩)))
  obtain ⟨x, hx, rfl⟩ := nI_of (x := v1) (fun q => z (Int32.lt_trans q (by decide)))
  have h1 : 1 ≤ x := by
    apply Classical.byContradiction
    intro q
    exact z (nI_lt (b := 1) (by omega) (by decide))
  have h2 : x ≤ 3 := (nI_leI (b := 3) hx (by decide)).mp z2
  exact rl_mk (by omega) h2 hG hL
end
section
/-! what is owed of the methods that list the group -/
theorem i_vc_order {k : Nat} {u : SX} {v : SY} (I : i_Rel k u v) (hk : k + 3 ≤ 1536) : wpX_order (fun r u' => wpY_order (fun r' v' => r' = r ∧ i_Rel (k + 3) u' v') v) u := by
  refine rl_el (P := fun u v => wpX_order (fun r u' => wpY_order (fun r' v' => r' = r ∧ i_Rel (k + 3) u' v') v) u) ?_ I
  intro m c e f_listed f_size f_shapes a_generator a_group a_table a_shape a_shapeCount a_ways g_size a_carries a_codes a_names a_waiting b_group a_listed hc h3 hG hL
  obtain ⟨hm, hg⟩ := id hG
  have hP : ∀ i, i < m → pm_P (e i) := fun i hi => (hg i hi).1
  have he : ∀ i, i < m → a_generator i = nI (e i) := fun i hi => (hg i hi).2.1
  have hy : ∀ i, i < m → ∀ j, j < 6 → a_carries (6 * i + j) = nI (pm_im (e i) j) := fun i hi => (hg i hi).2.2.2
  have h6 := sp_c6 h3
  unfold wpX_order
  dsimp only
  refine xw_listGroup (e := e) hm hP he hL (fun fn fs gp tb sp sc L => ?_)
  obtain ⟨n, a, s, t, rfl, rfl, G, hgp, S⟩ := id L
  have hn := gr_pos G
  have h7 := gr_720 G
  have ha : ∀ k, k < n → pm_P (a k) ∧ gp k = nI (a k) := fun k hk => ⟨G.2.1 k hk, hgp k hk⟩
  unfold wpY_order
  dsimp only
  exact yw_listGroup hm hP hy (fun n' a' gp' ls' G' hgp' => ⟨congrArg nI (gr_len G' G), rl_mk hc h3 hG (Or.inr ⟨rfl, L⟩)⟩)
theorem i_vc_withCycles {k : Nat} {u : SX} {v : SY} (I : i_Rel k u v) (hk : k + 3 ≤ 1536) (v1 : Int32) : wpX_withCycles (fun r u' => wpY_withCycles (fun r' v' => r' = r ∧ i_Rel (k + 3) u' v') v v1) u v1 := by
  refine rl_el (P := fun u v => wpX_withCycles (fun r u' => wpY_withCycles (fun r' v' => r' = r ∧ i_Rel (k + 3) u' v') v v1) u v1) ?_ I
  intro m c e f_listed f_size f_shapes a_generator a_group a_table a_shape a_shapeCount a_ways g_size a_carries a_codes a_names a_waiting b_group a_listed hc h3 hG hL
  obtain ⟨hm, hg⟩ := id hG
  have hP : ∀ i, i < m → pm_P (e i) := fun i hi => (hg i hi).1
  have he : ∀ i, i < m → a_generator i = nI (e i) := fun i hi => (hg i hi).2.1
  have hy : ∀ i, i < m → ∀ j, j < 6 → a_carries (6 * i + j) = nI (pm_im (e i) j) := fun i hi => (hg i hi).2.2.2
  have h6 := sp_c6 h3
  unfold wpX_withCycles
  dsimp only
  refine xw_listGroup (e := e) hm hP he hL (fun fn fs gp tb sp sc L => ?_)
  obtain ⟨n, a, s, t, rfl, rfl, G, hgp, S⟩ := id L
  have hn := gr_pos G
  have h7 := gr_720 G
  have ha : ∀ k, k < n → pm_P (a k) ∧ gp k = nI (a k) := fun k hk => ⟨G.2.1 k hk, hgp k hk⟩
  refine xw_withCycles S ?_
  unfold wpY_withCycles
  dsimp only
  refine yw_listGroup hm hP hy (fun n' a' gp' ls' G' hgp' => yw_withCycles (a := a') (gr_720 G') (fun k hk => ⟨G'.2.1 k hk, hgp' k hk⟩) ⟨congrArg nI ?_, rl_mk hc h3 hG (Or.inr ⟨rfl, L⟩)⟩)
  exact gr_cnt G' G (fun x => decide (nI (sh_a (sh_e x)) = v1))
theorem i_vc_kinds {k : Nat} {u : SX} {v : SY} (I : i_Rel k u v) (hk : k + 3 ≤ 1536) : wpX_kinds (fun r u' => wpY_kinds (fun r' v' => r' = r ∧ i_Rel (k + 3) u' v') v) u := by
  refine rl_el (P := fun u v => wpX_kinds (fun r u' => wpY_kinds (fun r' v' => r' = r ∧ i_Rel (k + 3) u' v') v) u) ?_ I
  intro m c e f_listed f_size f_shapes a_generator a_group a_table a_shape a_shapeCount a_ways g_size a_carries a_codes a_names a_waiting b_group a_listed hc h3 hG hL
  obtain ⟨hm, hg⟩ := id hG
  have hP : ∀ i, i < m → pm_P (e i) := fun i hi => (hg i hi).1
  have he : ∀ i, i < m → a_generator i = nI (e i) := fun i hi => (hg i hi).2.1
  have hy : ∀ i, i < m → ∀ j, j < 6 → a_carries (6 * i + j) = nI (pm_im (e i) j) := fun i hi => (hg i hi).2.2.2
  have h6 := sp_c6 h3
  unfold wpX_kinds
  dsimp only
  refine xw_listGroup (e := e) hm hP he hL (fun fn fs gp tb sp sc L => ?_)
  obtain ⟨n, a, s, t, rfl, rfl, G, hgp, S⟩ := id L
  have hn := gr_pos G
  have h7 := gr_720 G
  have ha : ∀ k, k < n → pm_P (a k) ∧ gp k = nI (a k) := fun k hk => ⟨G.2.1 k hk, hgp k hk⟩
  refine xw_kindsOf (K := gk_k c a n) hn h7 S (by have := gk_le c a n; omega) (gk_burn G hc h3) ?_
  unfold wpY_kinds
  dsimp only
  exact yw_names G hm hc h3 hy (fun nm wt hnm => yw_colourings (yw_kinds h3 (gk_Fle G hc) hnm ⟨congrArg nI (gk_eq G hc (gk_self G hc)).symm, rl_mk hc h3 hG (Or.inr ⟨rfl, L⟩)⟩))
theorem i_vc_kindsWith {k : Nat} {u : SX} {v : SY} (I : i_Rel k u v) (hk : k + 3 ≤ 1536) (v1 : Int32) (v2 : Int32) : wpX_kindsWith (fun r u' => wpY_kindsWith (fun r' v' => r' = r ∧ i_Rel (k + 3) u' v') v v1 v2) u v1 v2 := by
  refine rl_el (P := fun u v => wpX_kindsWith (fun r u' => wpY_kindsWith (fun r' v' => r' = r ∧ i_Rel (k + 3) u' v') v v1 v2) u v1 v2) ?_ I
  intro m c e f_listed f_size f_shapes a_generator a_group a_table a_shape a_shapeCount a_ways g_size a_carries a_codes a_names a_waiting b_group a_listed hc h3 hG hL
  obtain ⟨hm, hg⟩ := id hG
  have hP : ∀ i, i < m → pm_P (e i) := fun i hi => (hg i hi).1
  have he : ∀ i, i < m → a_generator i = nI (e i) := fun i hi => (hg i hi).2.1
  have hy : ∀ i, i < m → ∀ j, j < 6 → a_carries (6 * i + j) = nI (pm_im (e i) j) := fun i hi => (hg i hi).2.2.2
  have h6 := sp_c6 h3
  by_cases hV : ∃ p q, p + q ≤ 6 ∧ v1 = nI p ∧ v2 = nI q
  · obtain ⟨p, q, hpq, rfl, rfl⟩ := hV
    unfold wpX_kindsWith
    dsimp only
    refine br_f (nI_pos (by omega)) (br_f (nI_pos (by omega)) (pk_lt 6 p (fun z => absurd z (by omega)) (fun _ => pk_lt 6 q (fun z => absurd z (by omega)) (fun _ => ?_))))
    rw [nI_add]
    refine pk_le (p + q) 6 (fun _ => ?_) (fun z => absurd z (by omega))
    refine xw_listGroup (e := e) hm hP he hL (fun fn fs gp tb sp sc L => ?_)
    obtain ⟨n, a, s, t, rfl, rfl, G, hgp, S⟩ := id L
    have hn := gr_pos G
    have h7 := gr_720 G
    have ha : ∀ k, k < n → pm_P (a k) ∧ gp k = nI (a k) := fun k hk => ⟨G.2.1 k hk, hgp k hk⟩
    have hle : cs_c (fun x => (ac_n c x 0 == p && ac_n c x 1 == q) && gk_F c a n x == x) (c ^ 6) ≤ c ^ 6 := cs_cle _ _
    refine xw_kindsWith h3 hn h7 S (by omega) (by omega) (by omega) (an_with G hc h3 (gk_self G hc) hpq) (fun wy => ?_)
    unfold wpY_kindsWith
    dsimp only
    refine yw_names G hm hc h3 hy (fun nm wt hnm => yw_colourings (yw_kindsWith hc h3 (gk_Fle G hc) hnm ⟨congrArg nI (cs_ccongr fun x _ => ?_), rl_mk hc h3 hG (Or.inr ⟨rfl, L⟩)⟩))
    have b0 : ac_n c x 0 ≤ 6 := cs_cle _ _
    have b1 : ac_n c x 1 ≤ 6 := cs_cle _ _
    have d : ∀ a b : Nat, a ≤ 6 → b ≤ 6 → decide (nI a = nI b) = (a == b) := fun a b ha hb => by
      by_cases z : a = b
      · rw [z, cs_beqt rfl]; exact decide_eq_true rfl
      · rw [cs_beqf z, decide_eq_false]
        exact fun w => z ((nI_eq (by omega) (by omega)).mp w)
    rw [d _ _ b0 (by omega), d _ _ b1 (by omega)]
  · have Y0 : wpY_kindsWith (fun r' v' => r' = 0 ∧ i_Rel (k + 3) (nI m, nI c, f_listed, f_size, f_shapes, a_generator, a_group, a_table, a_shape, a_shapeCount, a_ways) v') (nI m, nI c, g_size, a_carries, a_codes, a_names, a_waiting, b_group, a_listed) v1 v2 := by
      unfold wpY_kindsWith
      dsimp only
      refine yw_findKinds hm hc h3 hP hy (fun f nm wt H hnm => yw_colourings (yw_kindsWith hc h3 H.1 hnm ⟨?_, rl_mk hc h3 hG hL⟩))
      refine congrArg nI (a₂ := 0) (cs_czero fun x _ => ?_)
      have b2 := an_n2 c x
      by_cases z : nI (ac_n c x 0) = v1
      · by_cases z' : nI (ac_n c x 1) = v2
        · exact absurd ⟨_, _, b2, z.symm, z'.symm⟩ hV
        · rw [decide_eq_false z', Bool.and_false, Bool.false_and]
      · rw [decide_eq_false z, Bool.false_and, Bool.false_and]
    unfold wpX_kindsWith
    dsimp only
    refine br_c (fun _ => Y0) (fun z1 => br_c (fun _ => Y0) (fun z2 => br_c (fun _ => Y0) (fun z3 => br_c (fun _ => Y0) (fun z4 => br_c (fun z5 => ?_) (fun _ => Y0)))))
    obtain ⟨p, hp, rfl⟩ := nI_of z1
    obtain ⟨q, hq, rfl⟩ := nI_of z2
    have q1 : p ≤ 6 := by
      apply Classical.byContradiction
      intro w
      exact z3 (nI_lt (a := 6) (by omega) hp)
    have q2 : q ≤ 6 := by
      apply Classical.byContradiction
      intro w
      exact z4 (nI_lt (a := 6) (by omega) hq)
    rw [nI_add] at z5
    exact absurd ⟨p, q, (nI_leI (b := 6) (by omega) (by decide)).mp z5, rfl, rfl⟩ hV
theorem i_vc_kindsWithAll {k : Nat} {u : SX} {v : SY} (I : i_Rel k u v) (hk : k + 3 ≤ 1536) : wpX_kindsWithAll (fun r u' => wpY_kindsWithAll (fun r' v' => r' = r ∧ i_Rel (k + 3) u' v') v) u := by
  refine rl_el (P := fun u v => wpX_kindsWithAll (fun r u' => wpY_kindsWithAll (fun r' v' => r' = r ∧ i_Rel (k + 3) u' v') v) u) ?_ I
  intro m c e f_listed f_size f_shapes a_generator a_group a_table a_shape a_shapeCount a_ways g_size a_carries a_codes a_names a_waiting b_group a_listed hc h3 hG hL
  obtain ⟨hm, hg⟩ := id hG
  have hP : ∀ i, i < m → pm_P (e i) := fun i hi => (hg i hi).1
  have he : ∀ i, i < m → a_generator i = nI (e i) := fun i hi => (hg i hi).2.1
  have hy : ∀ i, i < m → ∀ j, j < 6 → a_carries (6 * i + j) = nI (pm_im (e i) j) := fun i hi => (hg i hi).2.2.2
  have h6 := sp_c6 h3
  unfold wpX_kindsWithAll
  dsimp only
  refine xw_listGroup (e := e) hm hP he hL (fun fn fs gp tb sp sc L => ?_)
  obtain ⟨n, a, s, t, rfl, rfl, G, hgp, S⟩ := id L
  have hn := gr_pos G
  have h7 := gr_720 G
  have ha : ∀ k, k < n → pm_P (a k) ∧ gp k = nI (a k) := fun k hk => ⟨G.2.1 k hk, hgp k hk⟩
  have hg1 := gk_one G
  have hA := an_all G hc h3 (gk_self G hc)
  have l2 : gk_k 2 a n ≤ 2 ^ 6 := gk_le 2 a n
  have l3 : gk_k 3 a n ≤ 3 ^ 6 := gk_le 3 a n
  have Y : ∀ r : Int32, nI (cs_c (fun x => ac_al c x && gk_F c a n x == x) (c ^ 6)) = r → wpY_kindsWithAll (fun r' v' => r' = r ∧ i_Rel (k + 3) (nI m, nI c, 1, nI n, nI s, a_generator, gp, tb, sp, sc, a_ways) v') (nI m, nI c, g_size, a_carries, a_codes, a_names, a_waiting, b_group, a_listed) := by
    intro r hr
    unfold wpY_kindsWithAll
    dsimp only
    exact yw_names G hm hc h3 hy (fun nm wt hnm => yw_colourings (yw_kindsWithAll hc h3 (gk_Fle G hc) hnm ⟨hr, rl_mk hc h3 hG (Or.inr ⟨rfl, L⟩)⟩))
  generalize cs_c (fun x => ac_al c x && gk_F c a n x == x) (c ^ 6) = KA at *
  refine xw_kindsOf (b := 1) (K := gk_k 1 a n) hn h7 S (by omega) (gk_burn G (by decide) (by decide)) ?_
  rw [hg1]
  refine pk_eq c 1 (fun z => Y _ (congrArg nI (hA.1 z))) (fun z1 => ?_)
  refine xw_kindsOf (b := 2) (K := gk_k 2 a n) hn h7 S (by omega) (gk_burn G (by decide) (by decide)) ?_
  refine pk_eq c 2 (fun z => Y _ ?_) (fun z2 => ?_)
  · have h := hA.2.1 z
    rw [← h, ← nI_add]
    show nI KA = nI KA + nI 2 - 2 * nI 1
    exact (Int32.add_sub_cancel (nI KA) (nI 2)).symm
  · refine xw_kindsOf (b := 3) (K := gk_k 3 a n) hn h7 S (by omega) (gk_burn G (by decide) (by decide)) (Y _ ?_)
    have h := hA.2.2 (by omega)
    have e1 : (3 : Int32) * nI (gk_k 2 a n) = nI (3 * gk_k 2 a n) := pk_mul 3 _
    have e2 : nI (gk_k 3 a n) + nI 3 = nI KA + nI (3 * gk_k 2 a n) := by rw [nI_add, nI_add, h]
    have e3 : (3 : Int32) * nI 1 = nI 3 := by decide
    rw [e1, e3]
    have e4 : nI (gk_k 3 a n) - nI (3 * gk_k 2 a n) + nI 3 = nI (gk_k 3 a n) + nI 3 - nI (3 * gk_k 2 a n) := by grind
    rw [e4, e2]
    exact (Int32.add_sub_cancel _ _).symm
theorem i_vc_name {k : Nat} {u : SX} {v : SY} (I : i_Rel k u v) (hk : k + 3 ≤ 1536) (v1 : Int32) : wpX_name (fun r u' => wpY_name (fun r' v' => r' = r ∧ i_Rel (k + 3) u' v') v v1) u v1 := by
  refine rl_el (P := fun u v => wpX_name (fun r u' => wpY_name (fun r' v' => r' = r ∧ i_Rel (k + 3) u' v') v v1) u v1) ?_ I
  intro m c e f_listed f_size f_shapes a_generator a_group a_table a_shape a_shapeCount a_ways g_size a_carries a_codes a_names a_waiting b_group a_listed hc h3 hG hL
  obtain ⟨hm, hg⟩ := id hG
  have hP : ∀ i, i < m → pm_P (e i) := fun i hi => (hg i hi).1
  have he : ∀ i, i < m → a_generator i = nI (e i) := fun i hi => (hg i hi).2.1
  have hy : ∀ i, i < m → ∀ j, j < 6 → a_carries (6 * i + j) = nI (pm_im (e i) j) := fun i hi => (hg i hi).2.2.2
  have h6 := sp_c6 h3
  by_cases hv : ∃ x, x < c ^ 6 ∧ v1 = nI x
  · obtain ⟨x, hx, rfl⟩ := hv
    have ec : (nI x).toNatClampNeg = x := nI_clamp (by omega)
    unfold wpX_name
    dsimp only
    refine xw_bad h3 (fun _ _ _ => br_t rfl ?_) (fun z => absurd rfl (z x hx))
    refine xw_listGroup (e := e) hm hP he hL (fun fn fs gp tb sp sc L => ?_)
    obtain ⟨n, a, s, t, rfl, rfl, G, hgp, S⟩ := id L
    have hn := gr_pos G
    have h7 := gr_720 G
    have ha : ∀ k, k < n → pm_P (a k) ∧ gp k = nI (a k) := fun k hk => ⟨G.2.1 k hk, hgp k hk⟩
    refine xw_leastOf hc h3 h7 hx ha ?_
    unfold wpY_name
    dsimp only
    refine yw_isColouring h3 (fun _ _ _ => br_f (by decide) (yw_names G hm hc h3 hy (fun nm wt hnm => ⟨pk_in x 729 (by omega), ?_⟩))) (fun z => absurd rfl (z x hx))
    dsimp only
    rw [ec, hnm x hx]
    exact ⟨rfl, rl_mk hc h3 hG (Or.inr ⟨rfl, L⟩)⟩
  · have hv : ∀ x, x < c ^ 6 → v1 ≠ nI x := fun x hx z => hv ⟨x, hx, z⟩
    unfold wpX_name
    dsimp only
    refine xw_bad h3 (fun x hx z => absurd z (hv x hx)) (fun _ => br_f (by decide) ?_)
    unfold wpY_name
    dsimp only
    exact yw_isColouring h3 (fun x hx z => absurd z (hv x hx)) (fun _ => br_t rfl ⟨rfl, rl_mk hc h3 hG hL⟩)
theorem i_vc_size {k : Nat} {u : SX} {v : SY} (I : i_Rel k u v) (hk : k + 3 ≤ 1536) (v1 : Int32) : wpX_size (fun r u' => wpY_size (fun r' v' => r' = r ∧ i_Rel (k + 3) u' v') v v1) u v1 := by
  refine rl_el (P := fun u v => wpX_size (fun r u' => wpY_size (fun r' v' => r' = r ∧ i_Rel (k + 3) u' v') v v1) u v1) ?_ I
  intro m c e f_listed f_size f_shapes a_generator a_group a_table a_shape a_shapeCount a_ways g_size a_carries a_codes a_names a_waiting b_group a_listed hc h3 hG hL
  obtain ⟨hm, hg⟩ := id hG
  have hP : ∀ i, i < m → pm_P (e i) := fun i hi => (hg i hi).1
  have he : ∀ i, i < m → a_generator i = nI (e i) := fun i hi => (hg i hi).2.1
  have hy : ∀ i, i < m → ∀ j, j < 6 → a_carries (6 * i + j) = nI (pm_im (e i) j) := fun i hi => (hg i hi).2.2.2
  have h6 := sp_c6 h3
  by_cases hv : ∃ x, x < c ^ 6 ∧ v1 = nI x
  · obtain ⟨x, hx, rfl⟩ := hv
    have ec : (nI x).toNatClampNeg = x := nI_clamp (by omega)
    unfold wpX_size
    dsimp only
    refine xw_bad h3 (fun _ _ _ => br_t rfl ?_) (fun z => absurd rfl (z x hx))
    refine xw_listGroup (e := e) hm hP he hL (fun fn fs gp tb sp sc L => ?_)
    obtain ⟨n, a, s, t, rfl, rfl, G, hgp, S⟩ := id L
    have hn := gr_pos G
    have h7 := gr_720 G
    have ha : ∀ k, k < n → pm_P (a k) ∧ gp k = nI (a k) := fun k hk => ⟨G.2.1 k hk, hgp k hk⟩
    have hl := gk_Fle G hc x hx
    refine xw_size hc h3 hn h7 hx ha (an_size G hc (gk_self G hc) hx) ?_
    unfold wpY_size
    dsimp only
    refine yw_isColouring h3 (fun _ _ _ => br_f (by decide) (yw_names G hm hc h3 hy (fun nm wt hnm => ⟨pk_in x 729 (by omega), ?_⟩))) (fun z => absurd rfl (z x hx))
    dsimp only
    rw [ec, hnm x hx]
    exact yw_sizeOf h3 (by omega) (gk_Fle G hc) hnm ⟨rfl, rl_mk hc h3 hG (Or.inr ⟨rfl, L⟩)⟩
  · have hv : ∀ x, x < c ^ 6 → v1 ≠ nI x := fun x hx z => hv ⟨x, hx, z⟩
    unfold wpX_size
    dsimp only
    refine xw_bad h3 (fun x hx z => absurd z (hv x hx)) (fun _ => br_f (by decide) ?_)
    unfold wpY_size
    dsimp only
    exact yw_isColouring h3 (fun x hx z => absurd z (hv x hx)) (fun _ => br_t rfl ⟨rfl, rl_mk hc h3 hG hL⟩)
theorem i_vc_alike {k : Nat} {u : SX} {v : SY} (I : i_Rel k u v) (hk : k + 3 ≤ 1536) (v1 : Int32) (v2 : Int32) : wpX_alike (fun r u' => wpY_alike (fun r' v' => r' = r ∧ i_Rel (k + 3) u' v') v v1 v2) u v1 v2 := by
  refine rl_el (P := fun u v => wpX_alike (fun r u' => wpY_alike (fun r' v' => r' = r ∧ i_Rel (k + 3) u' v') v v1 v2) u v1 v2) ?_ I
  intro m c e f_listed f_size f_shapes a_generator a_group a_table a_shape a_shapeCount a_ways g_size a_carries a_codes a_names a_waiting b_group a_listed hc h3 hG hL
  obtain ⟨hm, hg⟩ := id hG
  have hP : ∀ i, i < m → pm_P (e i) := fun i hi => (hg i hi).1
  have he : ∀ i, i < m → a_generator i = nI (e i) := fun i hi => (hg i hi).2.1
  have hy : ∀ i, i < m → ∀ j, j < 6 → a_carries (6 * i + j) = nI (pm_im (e i) j) := fun i hi => (hg i hi).2.2.2
  have h6 := sp_c6 h3
  by_cases hv : ∃ x, x < c ^ 6 ∧ v1 = nI x
  · obtain ⟨x, hx, rfl⟩ := hv
    have ec : (nI x).toNatClampNeg = x := nI_clamp (by omega)
    unfold wpX_alike
    dsimp only
    refine xw_bad h3 (fun _ _ _ => br_t rfl ?_) (fun z => absurd rfl (z x hx))
    by_cases hw : ∃ y, y < c ^ 6 ∧ v2 = nI y
    · obtain ⟨y, hy', rfl⟩ := hw
      have ey : (nI y).toNatClampNeg = y := nI_clamp (by omega)
      refine xw_bad h3 (fun _ _ _ => br_t rfl ?_) (fun z => absurd rfl (z y hy'))
      refine xw_listGroup (e := e) hm hP he hL (fun fn fs gp tb sp sc L => ?_)
      obtain ⟨n, a, s, t, rfl, rfl, G, hgp, S⟩ := id L
      have hn := gr_pos G
      have h7 := gr_720 G
      have ha : ∀ k, k < n → pm_P (a k) ∧ gp k = nI (a k) := fun k hk => ⟨G.2.1 k hk, hgp k hk⟩
      refine xw_leastOf hc h3 h7 hx ha (xw_leastOf hc h3 h7 hy' ha ?_)
      have Y : ∀ r : Int32, (nI (gk_F c a n x) = nI (gk_F c a n y) → 1 = r) → (¬ nI (gk_F c a n x) = nI (gk_F c a n y) → 0 = r) → wpY_alike (fun r' v' => r' = r ∧ i_Rel (k + 3) (nI m, nI c, 1, nI n, nI s, a_generator, gp, tb, sp, sc, a_ways) v') (nI m, nI c, g_size, a_carries, a_codes, a_names, a_waiting, b_group, a_listed) (nI x) (nI y) := by
        intro r r1 r2
        unfold wpY_alike
        dsimp only
        refine yw_isColouring h3 (fun _ _ _ => br_f (by decide) (yw_isColouring h3 (fun _ _ _ => br_f (by decide) (yw_names G hm hc h3 hy (fun nm wt hnm => ⟨pk_in x 729 (by omega), pk_in y 729 (by omega), ?_⟩))) (fun z => absurd rfl (z y hy')))) (fun z => absurd rfl (z x hx))
        dsimp only
        rw [ec, ey, hnm x hx, hnm y hy']
        exact br_c (fun z => ⟨r1 z, rl_mk hc h3 hG (Or.inr ⟨rfl, L⟩)⟩) (fun z => ⟨r2 z, rl_mk hc h3 hG (Or.inr ⟨rfl, L⟩)⟩)
      exact br_c (fun z => Y 1 (fun _ => rfl) (fun w => absurd z w)) (fun z => Y 0 (fun w => absurd w z) (fun _ => rfl))
    · have hw : ∀ y, y < c ^ 6 → v2 ≠ nI y := fun y hy z => hw ⟨y, hy, z⟩
      refine xw_bad h3 (fun y hy z => absurd z (hw y hy)) (fun _ => br_f (by decide) ?_)
      unfold wpY_alike
      dsimp only
      exact yw_isColouring h3 (fun _ _ _ => br_f (by decide) (yw_isColouring h3 (fun y hy z => absurd z (hw y hy)) (fun _ => br_t rfl ⟨rfl, rl_mk hc h3 hG hL⟩))) (fun z => absurd rfl (z x hx))
  · have hv : ∀ x, x < c ^ 6 → v1 ≠ nI x := fun x hx z => hv ⟨x, hx, z⟩
    unfold wpX_alike
    dsimp only
    refine xw_bad h3 (fun x hx z => absurd z (hv x hx)) (fun _ => br_f (by decide) ?_)
    unfold wpY_alike
    dsimp only
    exact yw_isColouring h3 (fun x hx z => absurd z (hv x hx)) (fun _ => br_t rfl ⟨rfl, rl_mk hc h3 hG hL⟩)
theorem i_vc_still {k : Nat} {u : SX} {v : SY} (I : i_Rel k u v) (hk : k + 3 ≤ 1536) : wpX_still (fun r u' => wpY_still (fun r' v' => r' = r ∧ i_Rel (k + 3) u' v') v) u := by
  refine rl_el (P := fun u v => wpX_still (fun r u' => wpY_still (fun r' v' => r' = r ∧ i_Rel (k + 3) u' v') v) u) ?_ I
  intro m c e f_listed f_size f_shapes a_generator a_group a_table a_shape a_shapeCount a_ways g_size a_carries a_codes a_names a_waiting b_group a_listed hc h3 hG hL
  obtain ⟨hm, hg⟩ := id hG
  have hP : ∀ i, i < m → pm_P (e i) := fun i hi => (hg i hi).1
  have he : ∀ i, i < m → a_generator i = nI (e i) := fun i hi => (hg i hi).2.1
  have hy : ∀ i, i < m → ∀ j, j < 6 → a_carries (6 * i + j) = nI (pm_im (e i) j) := fun i hi => (hg i hi).2.2.2
  have h6 := sp_c6 h3
  unfold wpX_still
  dsimp only
  refine xw_listGroup (e := e) hm hP he hL (fun fn fs gp tb sp sc L => ?_)
  obtain ⟨n, a, s, t, rfl, rfl, G, hgp, S⟩ := id L
  have hn := gr_pos G
  have h7 := gr_720 G
  have ha : ∀ k, k < n → pm_P (a k) ∧ gp k = nI (a k) := fun k hk => ⟨G.2.1 k hk, hgp k hk⟩
  have ho : gk_o a n ≤ 6 := cs_cle _ _
  refine xw_orbitCount hn h7 S (by omega) (an_orb G) (xw_power (by omega) ?_)
  unfold wpY_still
  dsimp only
  exact yw_names G hm hc h3 hy (fun nm wt hnm => yw_colourings (yw_still h3 (gk_Fle G hc) hnm ⟨congrArg nI (an_still G hc (gk_self G hc)), rl_mk hc h3 hG (Or.inr ⟨rfl, L⟩)⟩))
theorem i_vc_selfExchanged {k : Nat} {u : SX} {v : SY} (I : i_Rel k u v) (hk : k + 3 ≤ 1536) : wpX_selfExchanged (fun r u' => wpY_selfExchanged (fun r' v' => r' = r ∧ i_Rel (k + 3) u' v') v) u := by
  refine rl_el (P := fun u v => wpX_selfExchanged (fun r u' => wpY_selfExchanged (fun r' v' => r' = r ∧ i_Rel (k + 3) u' v') v) u) ?_ I
  intro m c e f_listed f_size f_shapes a_generator a_group a_table a_shape a_shapeCount a_ways g_size a_carries a_codes a_names a_waiting b_group a_listed hc h3 hG hL
  obtain ⟨hm, hg⟩ := id hG
  have hP : ∀ i, i < m → pm_P (e i) := fun i hi => (hg i hi).1
  have he : ∀ i, i < m → a_generator i = nI (e i) := fun i hi => (hg i hi).2.1
  have hy : ∀ i, i < m → ∀ j, j < 6 → a_carries (6 * i + j) = nI (pm_im (e i) j) := fun i hi => (hg i hi).2.2.2
  have h6 := sp_c6 h3
  unfold wpX_selfExchanged
  dsimp only
  refine xw_listGroup (e := e) hm hP he hL (fun fn fs gp tb sp sc L => ?_)
  obtain ⟨n, a, s, t, rfl, rfl, G, hgp, S⟩ := id L
  have hn := gr_pos G
  have h7 := gr_720 G
  have ha : ∀ k, k < n → pm_P (a k) ∧ gp k = nI (a k) := fun k hk => ⟨G.2.1 k hk, hgp k hk⟩
  have Y : ∀ r : Int32, nI (cs_c (fun x => gk_F c a n x == x && gk_F c a n (ac_x c x) == x) (c ^ 6)) = r → wpY_selfExchanged (fun r' v' => r' = r ∧ i_Rel (k + 3) (nI m, nI c, 1, nI n, nI s, a_generator, gp, tb, sp, sc, a_ways) v') (nI m, nI c, g_size, a_carries, a_codes, a_names, a_waiting, b_group, a_listed) := by
    intro r hr
    unfold wpY_selfExchanged
    dsimp only
    exact yw_names G hm hc h3 hy (fun nm wt hnm => yw_colourings (yw_selfExchanged hc h3 (gk_Fle G hc) hnm ⟨hr, rl_mk hc h3 hG (Or.inr ⟨rfl, L⟩)⟩))
  refine pk_eq c 1 (fun z => Y _ ?_) (fun z => ?_)
  · subst z
    have f0 : ∀ x, x < 1 → gk_F 1 a n x = 0 := fun x hx => by
      have := gk_Fle G (c := 1) (by decide) x (by omega)
      omega
    have x0 : ac_x 1 0 < 1 := (ac_xd (c := 1) (by decide)).1
    refine congrArg nI (a₂ := 1) ?_
    show 0 + (gk_F 1 a n 0 == 0 && gk_F 1 a n (ac_x 1 0) == 0).toNat = 1
    rw [f0 0 (by decide), f0 _ x0]
    rfl
  · have hle : cs_c (fun x => gk_F c a n x == x && gk_F c a n (ac_x c x) == x) (c ^ 6) ≤ c ^ 6 := cs_cle _ _
    exact xw_selfExchanged (by omega) hn h7 S (by omega) (an_ex G (by omega) h3 (gk_self G hc)) (Y _ rfl)
theorem i_vc_orbits {k : Nat} {u : SX} {v : SY} (I : i_Rel k u v) (hk : k + 3 ≤ 1536) : wpX_orbits (fun r u' => wpY_orbits (fun r' => r' = r ∧ i_Rel (k + 3) u' v) v) u := by
  refine rl_el (P := fun u v => wpX_orbits (fun r u' => wpY_orbits (fun r' => r' = r ∧ i_Rel (k + 3) u' v) v) u) ?_ I
  intro m c e f_listed f_size f_shapes a_generator a_group a_table a_shape a_shapeCount a_ways g_size a_carries a_codes a_names a_waiting b_group a_listed hc h3 hG hL
  obtain ⟨hm, hg⟩ := id hG
  have hP : ∀ i, i < m → pm_P (e i) := fun i hi => (hg i hi).1
  have he : ∀ i, i < m → a_generator i = nI (e i) := fun i hi => (hg i hi).2.1
  have hy : ∀ i, i < m → ∀ j, j < 6 → a_carries (6 * i + j) = nI (pm_im (e i) j) := fun i hi => (hg i hi).2.2.2
  have h6 := sp_c6 h3
  unfold wpX_orbits
  dsimp only
  refine xw_listGroup (e := e) hm hP he hL (fun fn fs gp tb sp sc L => ?_)
  obtain ⟨n, a, s, t, rfl, rfl, G, hgp, S⟩ := id L
  have hn := gr_pos G
  have h7 := gr_720 G
  have ha : ∀ k, k < n → pm_P (a k) ∧ gp k = nI (a k) := fun k hk => ⟨G.2.1 k hk, hgp k hk⟩
  have ho : gk_o a n ≤ 6 := cs_cle _ _
  refine xw_orbitCount hn h7 S (by omega) (an_orb G) ?_
  exact yw_orbits hm hy ⟨congrArg nI (or_all G hm), rl_mk hc h3 hG (Or.inr ⟨rfl, L⟩)⟩
theorem i_vc_pairKinds {k : Nat} {u : SX} {v : SY} (I : i_Rel k u v) (hk : k + 3 ≤ 1536) : wpX_pairKinds (fun r u' => wpY_pairKinds (fun r' => r' = r ∧ i_Rel (k + 3) u' v) v) u := by
  refine rl_el (P := fun u v => wpX_pairKinds (fun r u' => wpY_pairKinds (fun r' => r' = r ∧ i_Rel (k + 3) u' v) v) u) ?_ I
  intro m c e f_listed f_size f_shapes a_generator a_group a_table a_shape a_shapeCount a_ways g_size a_carries a_codes a_names a_waiting b_group a_listed hc h3 hG hL
  obtain ⟨hm, hg⟩ := id hG
  have hP : ∀ i, i < m → pm_P (e i) := fun i hi => (hg i hi).1
  have he : ∀ i, i < m → a_generator i = nI (e i) := fun i hi => (hg i hi).2.1
  have hy : ∀ i, i < m → ∀ j, j < 6 → a_carries (6 * i + j) = nI (pm_im (e i) j) := fun i hi => (hg i hi).2.2.2
  have h6 := sp_c6 h3
  unfold wpX_pairKinds
  dsimp only
  refine xw_listGroup (e := e) hm hP he hL (fun fn fs gp tb sp sc L => ?_)
  obtain ⟨n, a, s, t, rfl, rfl, G, hgp, S⟩ := id L
  have hn := gr_pos G
  have h7 := gr_720 G
  have ha : ∀ k, k < n → pm_P (a k) ∧ gp k = nI (a k) := fun k hk => ⟨G.2.1 k hk, hgp k hk⟩
  have ho : gk_p a n ≤ 36 := cs_cle _ _
  refine xw_pairKinds hn h7 S (by omega) (an_pair G) ?_
  exact yw_pairKinds hm hP hy ⟨congrArg nI (pr_all G), rl_mk hc h3 hG (Or.inr ⟨rfl, L⟩)⟩
end
