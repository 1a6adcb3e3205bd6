section
/-! pure rows to paste: stores, nI and lN arithmetic, masks, shifts, narrowing, branches by naturals (pk_le, pk_lt, pk_eq), loops (lp1 .. lp16: the measure of the state; rp1 ..: recursion), negatives. Take what you need -/
theorem pk_us {f : Nat → Int32} {k : Nat} {x : Int32} : upd f k x k = x := if_pos rfl
theorem pk_un {f : Nat → Int32} {k j : Nat} {x : Int32} (h : j ≠ k) : upd f k x j = f j := if_neg h
theorem pk_uLs {f : Nat → Int64} {k : Nat} {x : Int64} : vp_updL f k x k = x := if_pos rfl
theorem pk_uLn {f : Nat → Int64} {k j : Nat} {x : Int64} (h : j ≠ k) : vp_updL f k x j = f j := if_neg h
theorem pk_sub {a b : Nat} (h : b ≤ a) : nI a - nI b = nI (a - b) := by
  obtain ⟨c, rfl⟩ : ∃ c, a = c + b := ⟨a - b, by omega⟩
  rw [← nI_add, Int32.add_sub_cancel, Nat.add_sub_cancel]
theorem pk_m1 (n : Nat) : nI (n + 1) + (-1) = nI n := by
  rw [← nI_1, Int32.add_assoc, show (1 : Int32) + (-1) = 0 from rfl, Int32.add_zero]
theorem pk_mul (a b : Nat) : nI a * nI b = nI (a * b) := (Int32.ofNat_mul a b).symm
theorem pk_div {a d : Nat} (ha : a < 2 ^ 31) (h0 : 0 < d) (hd : d < 2 ^ 31) : nI a / nI d = nI (a / d) := by
  apply Int32.toInt_inj.mp
  rw [lg_idiv_nonneg (by rw [nI_toInt ha]; omega) (by rw [nI_toInt hd]; omega), nI_toInt ha, nI_toInt hd, nI_toInt (Nat.lt_of_le_of_lt (Nat.div_le_self a d) ha)]
  first | rfl | exact (Int.natCast_ediv _ _).symm
theorem pk_rem {a d : Nat} (ha : a < 2 ^ 31) (h0 : 0 < d) (hd : d < 2 ^ 31) : nI a - nI a / nI d * nI d = nI (a % d) := by
  rw [pk_div ha h0 hd, pk_mul, pk_sub (Nat.div_mul_le_self a d)]
  exact congrArg nI (by have := Nat.div_add_mod' a d; omega)
theorem pk_sub_toInt {a b : Nat} (ha : a < 2 ^ 30) (hb : b < 2 ^ 30) : (nI a - nI b).toInt = (a : Int) - b := by
  rw [Int32.toInt_sub, nI_toInt (by omega), nI_toInt (by omega)]
  exact Int.bmod_eq_of_le (by omega) (by omega)
theorem pk_sneg {a b : Nat} (hb : b < 2 ^ 30) (h : a < b) : nI a - nI b < 0 := by
  rw [Int32.lt_iff_toInt_lt, pk_sub_toInt (by omega) hb, show (0 : Int32).toInt = 0 from by decide]
  omega
theorem pk_ix (x : Int32) {n : Nat} (hn : n < 2 ^ 31) : x < 0 ∨ nI n ≤ x ∨ ∃ j : Nat, j < n ∧ x = nI j := by
  by_cases h : x < 0
  · exact Or.inl h
  · obtain ⟨j, hj, rfl⟩ := nI_of h
    by_cases h2 : j < n
    · exact Or.inr (Or.inr ⟨j, h2, rfl⟩)
    · exact Or.inr (Or.inl (nI_le (by omega) hj))
theorem pk_le {x y : Int32} {A B : Prop} (a b : Nat) (f : a ≤ b → A) (g : b < a → B) (hx : x = nI a := by rfl) (hy : y = nI b := by rfl) (ha : a < 2 ^ 31 := by omega) (hb : b < 2 ^ 31 := by omega) : (x ≤ y → A) ∧ (¬ x ≤ y → B) := by
  subst hx hy
  rw [nI_leI ha hb]
  exact ⟨f, fun z => g (by omega)⟩
theorem pk_lt {x y : Int32} {A B : Prop} (a b : Nat) (f : a < b → A) (g : b ≤ a → B) (hx : x = nI a := by rfl) (hy : y = nI b := by rfl) (ha : a < 2 ^ 31 := by omega) (hb : b < 2 ^ 31 := by omega) : (x < y → A) ∧ (¬ x < y → B) := by
  subst hx hy
  rw [nI_ltI ha hb]
  exact ⟨f, fun z => g (by omega)⟩
theorem pk_eq {x y : Int32} {A B : Prop} (a b : Nat) (f : a = b → A) (g : a ≠ b → B) (hx : x = nI a := by rfl) (hy : y = nI b := by rfl) (ha : a < 2 ^ 31 := by omega) (hb : b < 2 ^ 31 := by omega) : (x = y → A) ∧ (¬ x = y → B) := by
  subst hx hy
  rw [nI_eq ha hb]
  exact ⟨f, g⟩
theorem pk_in {x : Int32} (n N : Nat) (h : n < N) (hx : x = nI n := by rfl) (hN : N < 2 ^ 31 := by omega) : vp_in x N := by
  subst hx
  exact vp_in_nI h hN
theorem pk_cl {x : Int32} (n : Nat) (hx : x = nI n := by rfl) (h : n < 2 ^ 31 := by omega) : x.toNatClampNeg = n := by
  subst hx
  exact nI_clamp h
theorem pk_tn {n : Nat} (h : n < 2 ^ 32) : (nI n).toBitVec.toNat = n := Nat.mod_eq_of_lt h
theorem pk_and (x : Int32) {m : Int32} (k : Nat) (hm : m.toBitVec.toNat = 2 ^ k - 1) : x &&& m = nI (x.toBitVec.toNat % 2 ^ k) := by
  apply Int32.toBitVec_inj.mp
  apply BitVec.eq_of_toNat_eq
  rw [Int32.toBitVec_and, BitVec.toNat_and, hm, Nat.and_two_pow_sub_one_eq_mod]
  show _ = (BitVec.ofNat 32 _).toNat
  rw [BitVec.toNat_ofNat]
  exact (Nat.mod_eq_of_lt (Nat.lt_of_le_of_lt (Nat.mod_le _ _) x.toBitVec.isLt)).symm
theorem pk_andN {n : Nat} (h : n < 2 ^ 32) {m : Int32} (k : Nat) (hm : m.toBitVec.toNat = 2 ^ k - 1) : nI n &&& m = nI (n % 2 ^ k) := by
  rw [pk_and _ k hm, pk_tn h]
theorem pk_andE (x : Int32) {m : Int32} (k : Nat) (hm : m.toBitVec.toNat = 2 ^ k - 1) : ∃ j : Nat, j < 2 ^ k ∧ x &&& m = nI j := ⟨_, Nat.mod_lt _ (Nat.two_pow_pos k), pk_and x k hm⟩
theorem pk_andIn (x : Int32) {m : Int32} (k : Nat) (hm : m.toBitVec.toNat = 2 ^ k - 1) (hk : k ≤ 30) : vp_in (x &&& m) (2 ^ k) := by
  obtain ⟨j, hj, e⟩ := pk_andE x k hm
  rw [e]
  exact vp_in_nI hj (Nat.lt_of_le_of_lt (Nat.pow_le_pow_right (by decide) hk) (by decide))
theorem pk_shl (a s : Int32) (k : Nat) (hs : (s.toBitVec.smod 32).toNat = k) : (a <<< s).toBitVec.toNat = a.toBitVec.toNat * 2 ^ k % 2 ^ 32 := by
  show (a.toBitVec <<< (s.toBitVec.smod 32).toNat).toNat = _
  rw [hs, BitVec.toNat_shiftLeft, Nat.shiftLeft_eq]
theorem pk_shlN {n : Nat} (s : Int32) (k : Nat) (hs : (s.toBitVec.smod 32).toNat = k) (h : n * 2 ^ k < 2 ^ 32) : nI n <<< s = nI (n * 2 ^ k) := by
  apply Int32.toBitVec_inj.mp
  apply BitVec.eq_of_toNat_eq
  have hn : n < 2 ^ 32 := Nat.lt_of_le_of_lt (Nat.le_mul_of_pos_right n (Nat.two_pow_pos k)) h
  rw [pk_shl _ _ k hs, pk_tn hn, pk_tn h, Nat.mod_eq_of_lt h]
theorem pk_shr (a s : Int32) (k : Nat) (hs : (s.toBitVec.smod 32).toNat = k) : (a >>> s).toInt = a.toInt >>> k := by
  show (a.toBitVec.sshiftRight (s.toBitVec.smod 32).toNat).toInt = _
  rw [hs, BitVec.toInt_sshiftRight]
  rfl
theorem pk_shrN {n : Nat} (h : n < 2 ^ 31) (s : Int32) (k : Nat) (hs : (s.toBitVec.smod 32).toNat = k) : nI n >>> s = nI (n / 2 ^ k) := by
  apply Int32.toInt_inj.mp
  have h2 : n / 2 ^ k ≤ n := Nat.div_le_self _ _
  rw [pk_shr _ _ k hs, nI_toInt h, nI_toInt (by omega), Int.shiftRight_eq_div_pow]
  rfl
theorem pk_ushr (x s : Int32) (k : Nat) (hs : ((s.toUInt32 &&& Int32.toUInt32 31).toBitVec % 32).toNat = k) : (x.toUInt32 >>> (s.toUInt32 &&& Int32.toUInt32 31)).toInt32.toBitVec.toNat = x.toBitVec.toNat / 2 ^ k := by
  have e : (x.toUInt32 >>> (s.toUInt32 &&& Int32.toUInt32 31)).toInt32.toBitVec = x.toBitVec >>> k := by
    rw [← hs]
    exact UInt32.toBitVec_shiftRight _ _
  rw [e, BitVec.toNat_ushiftRight, Nat.shiftRight_eq_div_pow]
theorem pk_ushrN {n : Nat} (hn : n < 2 ^ 32) (s : Int32) (k : Nat) (hs : ((s.toUInt32 &&& Int32.toUInt32 31).toBitVec % 32).toNat = k) : ((nI n).toUInt32 >>> (s.toUInt32 &&& Int32.toUInt32 31)).toInt32 = nI (n / 2 ^ k) := by
  apply Int32.toBitVec_inj.mp
  apply BitVec.eq_of_toNat_eq
  rw [pk_ushr _ s k hs, pk_tn hn, pk_tn (Nat.lt_of_le_of_lt (Nat.div_le_self _ _) hn)]
theorem pk_nb (z : Int32) : narrow .byte (.int z.toInt8.toInt32) = .int z.toInt8.toInt32 := congrArg Value.int (by simp)
theorem pk_ns (z : Int32) : narrow .short (.int z.toInt16.toInt32) = .int z.toInt16.toInt32 := congrArg Value.int (by simp)
theorem pk_fb (r : Int32) : fits .byte (.int r.toInt8.toInt32) = true := by
  have ⟨a, b⟩ := lg_i2b_range r
  have h1 : (-128 : Int32).toInt = -128 := by decide
  have h2 : (127 : Int32).toInt = 127 := by decide
  simp only [fits, Bool.and_eq_true, decide_eq_true_eq, Int32.le_iff_toInt_le, h1, h2]
  omega
theorem pk_fs (r : Int32) : fits .short (.int r.toInt16.toInt32) = true := by
  have ⟨a, b⟩ := lg_i2s_range r
  have h1 : (-32768 : Int32).toInt = -32768 := by decide
  have h2 : (32767 : Int32).toInt = 32767 := by decide
  simp only [fits, Bool.and_eq_true, decide_eq_true_eq, Int32.le_iff_toInt_le, h1, h2]
  omega
theorem pk_charN {q : Nat} (hq : q < 65536) : narrow .char (.int (nI q)) = .int (nI q) ∧ fits .char (.int (nI q)) = true := by
  constructor
  · have e : (nI q).toUInt32.toUInt16.toUInt32.toInt32 = nI q := by
      apply Int32.toBitVec_inj.mp
      apply BitVec.eq_of_toNat_eq
      show (nI q).toUInt32.toUInt16.toUInt32.toNat = q % 2 ^ 32
      rw [UInt16.toNat_toUInt32, UInt32.toNat_toUInt16, show (nI q).toUInt32.toNat = q % 2 ^ 32 from rfl]
      omega
    exact congrArg Value.int e
  · have a : (0 : Int32) ≤ nI q := nI_pos' (by omega)
    have b : nI q ≤ 65535 := nI_le (b := 65535) (by omega) (by decide)
    show (decide ((0 : Int32) ≤ nI q) && decide (nI q ≤ 65535)) = true
    rw [decide_eq_true a, decide_eq_true b]
    rfl
theorem pk_char (x : Int32) : (x.toUInt32 % 65536).toInt32 = nI (x.toBitVec.toNat % 65536) := by
  apply Int32.toBitVec_inj.mp
  apply BitVec.eq_of_toNat_eq
  rw [pk_tn (by omega)]
  show (x.toUInt32 % 65536).toNat = _
  rw [UInt32.toNat_mod]
  rfl
theorem pk_nc (x : Int32) : narrow .char (.int (x.toUInt32 % 65536).toInt32) = .int (x.toUInt32 % 65536).toInt32 := by
  rw [pk_char]
  exact (pk_charN (Nat.mod_lt _ (by decide))).1
theorem pk_fc (x : Int32) : fits .char (.int (x.toUInt32 % 65536).toInt32) = true := by
  rw [pk_char]
  exact (pk_charN (Nat.mod_lt _ (by decide))).2
theorem pk_vb (z : Int32) : vp_nar .byte z.toInt8.toInt32 = z.toInt8.toInt32 := by rw [vp_nar_byte]; simp
theorem pk_vs (z : Int32) : vp_nar .short z.toInt16.toInt32 = z.toInt16.toInt32 := by rw [vp_nar_short]; simp
theorem pk_vc (z : Int32) : vp_nar .char (z.toUInt32 % 65536).toInt32 = (z.toUInt32 % 65536).toInt32 := Value.int.inj (pk_nc z)
theorem pk_lT {n : Nat} (h : n < 2 ^ 63) : (lN n).toInt = (n : Int) := lg_ofNat_toInt h
theorem pk_lLT {a b : Nat} (ha : a < 2 ^ 63) (hb : b < 2 ^ 63) : lN a < lN b ↔ a < b := by
  rw [Int64.lt_iff_toInt_lt, pk_lT ha, pk_lT hb]; omega
theorem pk_lLE {a b : Nat} (ha : a < 2 ^ 63) (hb : b < 2 ^ 63) : lN a ≤ lN b ↔ a ≤ b := by
  rw [Int64.le_iff_toInt_le, pk_lT ha, pk_lT hb]; omega
theorem pk_lEQ {a b : Nat} (ha : a < 2 ^ 63) (hb : b < 2 ^ 63) : lN a = lN b ↔ a = b := by
  rw [← Int64.toInt_inj, pk_lT ha, pk_lT hb]; omega
theorem pk_lOf {x : Int64} (h : ¬ x < 0) : ∃ k : Nat, k < 2 ^ 63 ∧ x = lN k := by
  rw [Int64.lt_iff_toInt_lt] at h
  have h0 : (0 : Int64).toInt = 0 := by decide
  have hx := Int64.toInt_lt x
  refine ⟨x.toInt.toNat, by omega, Int64.toInt_inj.mp ?_⟩
  rw [pk_lT (by omega)]
  omega
theorem pk_lDiv {a b : Nat} (ha : a < 2 ^ 63) (h0 : 0 < b) (hb : b < 2 ^ 63) : lN a / lN b = lN (a / b) := by
  apply Int64.toInt_inj.mp
  rw [lg_ldiv_nonneg (by rw [pk_lT ha]; omega) (by rw [pk_lT hb]; omega), pk_lT ha, pk_lT hb, pk_lT (Nat.lt_of_le_of_lt (Nat.div_le_self a b) ha)]
  rfl
theorem pk_lRem {a b : Nat} (ha : a < 2 ^ 63) (h0 : 0 < b) (hb : b < 2 ^ 63) : lN a - lN a / lN b * lN b = lN (a % b) := by
  rw [pk_lDiv ha h0 hb, lN_mul, lN_sub (Nat.div_mul_le_self a b)]
  exact congrArg lN (by have := Nat.div_add_mod' a b; omega)
theorem pk_loop {σ : Type} (W : Nat → Nat → σ → Prop) (I : Nat → σ → Prop) (e i0 : Nat) (s : σ) (hi : i0 ≤ e) (h0 : I i0 s) (hx : ∀ n s, I e s → W (n + 1) e s)
    (hs : ∀ n i s, i < e → I i s → (∀ s', I (i + 1) s' → W n (i + 1) s') → W (n + 1) i s) : ∃ n, W n i0 s :=
  ⟨e + 1, loop_i W I e hx hs (e + 1) i0 s hi (by omega) h0⟩
theorem pk_loopD {σ : Type} (W : Nat → Nat → σ → Prop) (I : Nat → σ → Prop) (hx : ∀ n s, I 0 s → W (n + 1) 0 s)
    (hs : ∀ n i s, I (i + 1) s → (∀ s', I i s' → W n i s') → W (n + 1) (i + 1) s) : ∀ (e : Nat) (s : σ), I e s → W (e + 1) e s := by
  intro e
  induction e with
  | zero => exact fun s h => hx 0 s h
  | succ e ih => exact fun s h => hs (e + 1) e s h (fun s' h' => ih s' h')
theorem lp1 {A1 : Type} (W : Nat → A1 → Prop) (I : A1 → Prop) (μ : A1 → Nat) (hs : ∀ (n : Nat) (a1 : A1), I a1 → (∀ (b1 : A1), I b1 → μ b1 < μ a1 → W n b1) → W (n + 1) a1) (a1 : A1) (h : I a1) : ∃ n, W n a1 :=
  loop_m (σ := A1) (fun n s => W n s) (fun s => I s) (fun s => μ s) (fun n s hI hk => hs n s hI (fun b1 h9 hm => hk b1 h9 hm)) a1 h
theorem lp2 {A1 A2 : Type} (W : Nat → A1 → A2 → Prop) (I : A1 → A2 → Prop) (μ : A1 → A2 → Nat) (hs : ∀ (n : Nat) (a1 : A1) (a2 : A2), I a1 a2 → (∀ (b1 : A1) (b2 : A2), I b1 b2 → μ b1 b2 < μ a1 a2 → W n b1 b2) → W (n + 1) a1 a2) (a1 : A1) (a2 : A2) (h : I a1 a2) : ∃ n, W n a1 a2 :=
  loop_m (σ := A1 × A2) (fun n s => W n s.1 s.2) (fun s => I s.1 s.2) (fun s => μ s.1 s.2) (fun n s hI hk => hs n s.1 s.2 hI (fun b1 b2 h9 hm => hk (b1, b2) h9 hm)) (a1, a2) h
theorem lp3 {A1 A2 A3 : Type} (W : Nat → A1 → A2 → A3 → Prop) (I : A1 → A2 → A3 → Prop) (μ : A1 → A2 → A3 → Nat) (hs : ∀ (n : Nat) (a1 : A1) (a2 : A2) (a3 : A3), I a1 a2 a3 → (∀ (b1 : A1) (b2 : A2) (b3 : A3), I b1 b2 b3 → μ b1 b2 b3 < μ a1 a2 a3 → W n b1 b2 b3) → W (n + 1) a1 a2 a3) (a1 : A1) (a2 : A2) (a3 : A3) (h : I a1 a2 a3) : ∃ n, W n a1 a2 a3 :=
  loop_m (σ := A1 × A2 × A3) (fun n s => W n s.1 s.2.1 s.2.2) (fun s => I s.1 s.2.1 s.2.2) (fun s => μ s.1 s.2.1 s.2.2) (fun n s hI hk => hs n s.1 s.2.1 s.2.2 hI (fun b1 b2 b3 h9 hm => hk (b1, b2, b3) h9 hm)) (a1, a2, a3) h
theorem lp4 {A1 A2 A3 A4 : Type} (W : Nat → A1 → A2 → A3 → A4 → Prop) (I : A1 → A2 → A3 → A4 → Prop) (μ : A1 → A2 → A3 → A4 → Nat) (hs : ∀ (n : Nat) (a1 : A1) (a2 : A2) (a3 : A3) (a4 : A4), I a1 a2 a3 a4 → (∀ (b1 : A1) (b2 : A2) (b3 : A3) (b4 : A4), I b1 b2 b3 b4 → μ b1 b2 b3 b4 < μ a1 a2 a3 a4 → W n b1 b2 b3 b4) → W (n + 1) a1 a2 a3 a4) (a1 : A1) (a2 : A2) (a3 : A3) (a4 : A4) (h : I a1 a2 a3 a4) : ∃ n, W n a1 a2 a3 a4 :=
  loop_m (σ := A1 × A2 × A3 × A4) (fun n s => W n s.1 s.2.1 s.2.2.1 s.2.2.2) (fun s => I s.1 s.2.1 s.2.2.1 s.2.2.2) (fun s => μ s.1 s.2.1 s.2.2.1 s.2.2.2) (fun n s hI hk => hs n s.1 s.2.1 s.2.2.1 s.2.2.2 hI (fun b1 b2 b3 b4 h9 hm => hk (b1, b2, b3, b4) h9 hm)) (a1, a2, a3, a4) h
theorem lp5 {A1 A2 A3 A4 A5 : Type} (W : Nat → A1 → A2 → A3 → A4 → A5 → Prop) (I : A1 → A2 → A3 → A4 → A5 → Prop) (μ : A1 → A2 → A3 → A4 → A5 → Nat) (hs : ∀ (n : Nat) (a1 : A1) (a2 : A2) (a3 : A3) (a4 : A4) (a5 : A5), I a1 a2 a3 a4 a5 → (∀ (b1 : A1) (b2 : A2) (b3 : A3) (b4 : A4) (b5 : A5), I b1 b2 b3 b4 b5 → μ b1 b2 b3 b4 b5 < μ a1 a2 a3 a4 a5 → W n b1 b2 b3 b4 b5) → W (n + 1) a1 a2 a3 a4 a5) (a1 : A1) (a2 : A2) (a3 : A3) (a4 : A4) (a5 : A5) (h : I a1 a2 a3 a4 a5) : ∃ n, W n a1 a2 a3 a4 a5 :=
  loop_m (σ := A1 × A2 × A3 × A4 × A5) (fun n s => W n s.1 s.2.1 s.2.2.1 s.2.2.2.1 s.2.2.2.2) (fun s => I s.1 s.2.1 s.2.2.1 s.2.2.2.1 s.2.2.2.2) (fun s => μ s.1 s.2.1 s.2.2.1 s.2.2.2.1 s.2.2.2.2) (fun n s hI hk => hs n s.1 s.2.1 s.2.2.1 s.2.2.2.1 s.2.2.2.2 hI (fun b1 b2 b3 b4 b5 h9 hm => hk (b1, b2, b3, b4, b5) h9 hm)) (a1, a2, a3, a4, a5) h
theorem lp6 {A1 A2 A3 A4 A5 A6 : Type} (W : Nat → A1 → A2 → A3 → A4 → A5 → A6 → Prop) (I : A1 → A2 → A3 → A4 → A5 → A6 → Prop) (μ : A1 → A2 → A3 → A4 → A5 → A6 → Nat) (hs : ∀ (n : Nat) (a1 : A1) (a2 : A2) (a3 : A3) (a4 : A4) (a5 : A5) (a6 : A6), I a1 a2 a3 a4 a5 a6 → (∀ (b1 : A1) (b2 : A2) (b3 : A3) (b4 : A4) (b5 : A5) (b6 : A6), I b1 b2 b3 b4 b5 b6 → μ b1 b2 b3 b4 b5 b6 < μ a1 a2 a3 a4 a5 a6 → W n b1 b2 b3 b4 b5 b6) → W (n + 1) a1 a2 a3 a4 a5 a6) (a1 : A1) (a2 : A2) (a3 : A3) (a4 : A4) (a5 : A5) (a6 : A6) (h : I a1 a2 a3 a4 a5 a6) : ∃ n, W n a1 a2 a3 a4 a5 a6 :=
  loop_m (σ := A1 × A2 × A3 × A4 × A5 × A6) (fun n s => W n s.1 s.2.1 s.2.2.1 s.2.2.2.1 s.2.2.2.2.1 s.2.2.2.2.2) (fun s => I s.1 s.2.1 s.2.2.1 s.2.2.2.1 s.2.2.2.2.1 s.2.2.2.2.2) (fun s => μ s.1 s.2.1 s.2.2.1 s.2.2.2.1 s.2.2.2.2.1 s.2.2.2.2.2) (fun n s hI hk => hs n s.1 s.2.1 s.2.2.1 s.2.2.2.1 s.2.2.2.2.1 s.2.2.2.2.2 hI (fun b1 b2 b3 b4 b5 b6 h9 hm => hk (b1, b2, b3, b4, b5, b6) h9 hm)) (a1, a2, a3, a4, a5, a6) h
theorem lp7 {A1 A2 A3 A4 A5 A6 A7 : Type} (W : Nat → A1 → A2 → A3 → A4 → A5 → A6 → A7 → Prop) (I : A1 → A2 → A3 → A4 → A5 → A6 → A7 → Prop) (μ : A1 → A2 → A3 → A4 → A5 → A6 → A7 → Nat) (hs : ∀ (n : Nat) (a1 : A1) (a2 : A2) (a3 : A3) (a4 : A4) (a5 : A5) (a6 : A6) (a7 : A7), I a1 a2 a3 a4 a5 a6 a7 → (∀ (b1 : A1) (b2 : A2) (b3 : A3) (b4 : A4) (b5 : A5) (b6 : A6) (b7 : A7), I b1 b2 b3 b4 b5 b6 b7 → μ b1 b2 b3 b4 b5 b6 b7 < μ a1 a2 a3 a4 a5 a6 a7 → W n b1 b2 b3 b4 b5 b6 b7) → W (n + 1) a1 a2 a3 a4 a5 a6 a7) (a1 : A1) (a2 : A2) (a3 : A3) (a4 : A4) (a5 : A5) (a6 : A6) (a7 : A7) (h : I a1 a2 a3 a4 a5 a6 a7) : ∃ n, W n a1 a2 a3 a4 a5 a6 a7 :=
  loop_m (σ := A1 × A2 × A3 × A4 × A5 × A6 × A7) (fun n s => W n s.1 s.2.1 s.2.2.1 s.2.2.2.1 s.2.2.2.2.1 s.2.2.2.2.2.1 s.2.2.2.2.2.2) (fun s => I s.1 s.2.1 s.2.2.1 s.2.2.2.1 s.2.2.2.2.1 s.2.2.2.2.2.1 s.2.2.2.2.2.2) (fun s => μ s.1 s.2.1 s.2.2.1 s.2.2.2.1 s.2.2.2.2.1 s.2.2.2.2.2.1 s.2.2.2.2.2.2) (fun n s hI hk => hs n s.1 s.2.1 s.2.2.1 s.2.2.2.1 s.2.2.2.2.1 s.2.2.2.2.2.1 s.2.2.2.2.2.2 hI (fun b1 b2 b3 b4 b5 b6 b7 h9 hm => hk (b1, b2, b3, b4, b5, b6, b7) h9 hm)) (a1, a2, a3, a4, a5, a6, a7) h
theorem lp8 {A1 A2 A3 A4 A5 A6 A7 A8 : Type} (W : Nat → A1 → A2 → A3 → A4 → A5 → A6 → A7 → A8 → Prop) (I : A1 → A2 → A3 → A4 → A5 → A6 → A7 → A8 → Prop) (μ : A1 → A2 → A3 → A4 → A5 → A6 → A7 → A8 → Nat) (hs : ∀ (n : Nat) (a1 : A1) (a2 : A2) (a3 : A3) (a4 : A4) (a5 : A5) (a6 : A6) (a7 : A7) (a8 : A8), I a1 a2 a3 a4 a5 a6 a7 a8 → (∀ (b1 : A1) (b2 : A2) (b3 : A3) (b4 : A4) (b5 : A5) (b6 : A6) (b7 : A7) (b8 : A8), I b1 b2 b3 b4 b5 b6 b7 b8 → μ b1 b2 b3 b4 b5 b6 b7 b8 < μ a1 a2 a3 a4 a5 a6 a7 a8 → W n b1 b2 b3 b4 b5 b6 b7 b8) → W (n + 1) a1 a2 a3 a4 a5 a6 a7 a8) (a1 : A1) (a2 : A2) (a3 : A3) (a4 : A4) (a5 : A5) (a6 : A6) (a7 : A7) (a8 : A8) (h : I a1 a2 a3 a4 a5 a6 a7 a8) : ∃ n, W n a1 a2 a3 a4 a5 a6 a7 a8 :=
  loop_m (σ := A1 × A2 × A3 × A4 × A5 × A6 × A7 × A8) (fun n s => W n s.1 s.2.1 s.2.2.1 s.2.2.2.1 s.2.2.2.2.1 s.2.2.2.2.2.1 s.2.2.2.2.2.2.1 s.2.2.2.2.2.2.2) (fun s => I s.1 s.2.1 s.2.2.1 s.2.2.2.1 s.2.2.2.2.1 s.2.2.2.2.2.1 s.2.2.2.2.2.2.1 s.2.2.2.2.2.2.2) (fun s => μ s.1 s.2.1 s.2.2.1 s.2.2.2.1 s.2.2.2.2.1 s.2.2.2.2.2.1 s.2.2.2.2.2.2.1 s.2.2.2.2.2.2.2) (fun n s hI hk => hs n s.1 s.2.1 s.2.2.1 s.2.2.2.1 s.2.2.2.2.1 s.2.2.2.2.2.1 s.2.2.2.2.2.2.1 s.2.2.2.2.2.2.2 hI (fun b1 b2 b3 b4 b5 b6 b7 b8 h9 hm => hk (b1, b2, b3, b4, b5, b6, b7, b8) h9 hm)) (a1, a2, a3, a4, a5, a6, a7, a8) h
theorem lp9 {A1 A2 A3 A4 A5 A6 A7 A8 A9 : Type} (W : Nat → A1 → A2 → A3 → A4 → A5 → A6 → A7 → A8 → A9 → Prop) (I : A1 → A2 → A3 → A4 → A5 → A6 → A7 → A8 → A9 → Prop) (μ : A1 → A2 → A3 → A4 → A5 → A6 → A7 → A8 → A9 → Nat) (hs : ∀ (n : Nat) (a1 : A1) (a2 : A2) (a3 : A3) (a4 : A4) (a5 : A5) (a6 : A6) (a7 : A7) (a8 : A8) (a9 : A9), I a1 a2 a3 a4 a5 a6 a7 a8 a9 → (∀ (b1 : A1) (b2 : A2) (b3 : A3) (b4 : A4) (b5 : A5) (b6 : A6) (b7 : A7) (b8 : A8) (b9 : A9), I b1 b2 b3 b4 b5 b6 b7 b8 b9 → μ b1 b2 b3 b4 b5 b6 b7 b8 b9 < μ a1 a2 a3 a4 a5 a6 a7 a8 a9 → W n b1 b2 b3 b4 b5 b6 b7 b8 b9) → W (n + 1) a1 a2 a3 a4 a5 a6 a7 a8 a9) (a1 : A1) (a2 : A2) (a3 : A3) (a4 : A4) (a5 : A5) (a6 : A6) (a7 : A7) (a8 : A8) (a9 : A9) (h : I a1 a2 a3 a4 a5 a6 a7 a8 a9) : ∃ n, W n a1 a2 a3 a4 a5 a6 a7 a8 a9 :=
  loop_m (σ := A1 × A2 × A3 × A4 × A5 × A6 × A7 × A8 × A9) (fun n s => W n s.1 s.2.1 s.2.2.1 s.2.2.2.1 s.2.2.2.2.1 s.2.2.2.2.2.1 s.2.2.2.2.2.2.1 s.2.2.2.2.2.2.2.1 s.2.2.2.2.2.2.2.2) (fun s => I s.1 s.2.1 s.2.2.1 s.2.2.2.1 s.2.2.2.2.1 s.2.2.2.2.2.1 s.2.2.2.2.2.2.1 s.2.2.2.2.2.2.2.1 s.2.2.2.2.2.2.2.2) (fun s => μ s.1 s.2.1 s.2.2.1 s.2.2.2.1 s.2.2.2.2.1 s.2.2.2.2.2.1 s.2.2.2.2.2.2.1 s.2.2.2.2.2.2.2.1 s.2.2.2.2.2.2.2.2) (fun n s hI hk => hs n s.1 s.2.1 s.2.2.1 s.2.2.2.1 s.2.2.2.2.1 s.2.2.2.2.2.1 s.2.2.2.2.2.2.1 s.2.2.2.2.2.2.2.1 s.2.2.2.2.2.2.2.2 hI (fun b1 b2 b3 b4 b5 b6 b7 b8 b9 h9 hm => hk (b1, b2, b3, b4, b5, b6, b7, b8, b9) h9 hm)) (a1, a2, a3, a4, a5, a6, a7, a8, a9) h
theorem lp10 {A1 A2 A3 A4 A5 A6 A7 A8 A9 A10 : Type} (W : Nat → A1 → A2 → A3 → A4 → A5 → A6 → A7 → A8 → A9 → A10 → Prop) (I : A1 → A2 → A3 → A4 → A5 → A6 → A7 → A8 → A9 → A10 → Prop) (μ : A1 → A2 → A3 → A4 → A5 → A6 → A7 → A8 → A9 → A10 → Nat) (hs : ∀ (n : Nat) (a1 : A1) (a2 : A2) (a3 : A3) (a4 : A4) (a5 : A5) (a6 : A6) (a7 : A7) (a8 : A8) (a9 : A9) (a10 : A10), I a1 a2 a3 a4 a5 a6 a7 a8 a9 a10 → (∀ (b1 : A1) (b2 : A2) (b3 : A3) (b4 : A4) (b5 : A5) (b6 : A6) (b7 : A7) (b8 : A8) (b9 : A9) (b10 : A10), I b1 b2 b3 b4 b5 b6 b7 b8 b9 b10 → μ b1 b2 b3 b4 b5 b6 b7 b8 b9 b10 < μ a1 a2 a3 a4 a5 a6 a7 a8 a9 a10 → W n b1 b2 b3 b4 b5 b6 b7 b8 b9 b10) → W (n + 1) a1 a2 a3 a4 a5 a6 a7 a8 a9 a10) (a1 : A1) (a2 : A2) (a3 : A3) (a4 : A4) (a5 : A5) (a6 : A6) (a7 : A7) (a8 : A8) (a9 : A9) (a10 : A10) (h : I a1 a2 a3 a4 a5 a6 a7 a8 a9 a10) : ∃ n, W n a1 a2 a3 a4 a5 a6 a7 a8 a9 a10 :=
  loop_m (σ := A1 × A2 × A3 × A4 × A5 × A6 × A7 × A8 × A9 × A10) (fun n s => W n s.1 s.2.1 s.2.2.1 s.2.2.2.1 s.2.2.2.2.1 s.2.2.2.2.2.1 s.2.2.2.2.2.2.1 s.2.2.2.2.2.2.2.1 s.2.2.2.2.2.2.2.2.1 s.2.2.2.2.2.2.2.2.2) (fun s => I s.1 s.2.1 s.2.2.1 s.2.2.2.1 s.2.2.2.2.1 s.2.2.2.2.2.1 s.2.2.2.2.2.2.1 s.2.2.2.2.2.2.2.1 s.2.2.2.2.2.2.2.2.1 s.2.2.2.2.2.2.2.2.2) (fun s => μ s.1 s.2.1 s.2.2.1 s.2.2.2.1 s.2.2.2.2.1 s.2.2.2.2.2.1 s.2.2.2.2.2.2.1 s.2.2.2.2.2.2.2.1 s.2.2.2.2.2.2.2.2.1 s.2.2.2.2.2.2.2.2.2) (fun n s hI hk => hs n s.1 s.2.1 s.2.2.1 s.2.2.2.1 s.2.2.2.2.1 s.2.2.2.2.2.1 s.2.2.2.2.2.2.1 s.2.2.2.2.2.2.2.1 s.2.2.2.2.2.2.2.2.1 s.2.2.2.2.2.2.2.2.2 hI (fun b1 b2 b3 b4 b5 b6 b7 b8 b9 b10 h9 hm => hk (b1, b2, b3, b4, b5, b6, b7, b8, b9, b10) h9 hm)) (a1, a2, a3, a4, a5, a6, a7, a8, a9, a10) h
theorem lp11 {A1 A2 A3 A4 A5 A6 A7 A8 A9 A10 A11 : Type} (W : Nat → A1 → A2 → A3 → A4 → A5 → A6 → A7 → A8 → A9 → A10 → A11 → Prop) (I : A1 → A2 → A3 → A4 → A5 → A6 → A7 → A8 → A9 → A10 → A11 → Prop) (μ : A1 → A2 → A3 → A4 → A5 → A6 → A7 → A8 → A9 → A10 → A11 → Nat) (hs : ∀ (n : Nat) (a1 : A1) (a2 : A2) (a3 : A3) (a4 : A4) (a5 : A5) (a6 : A6) (a7 : A7) (a8 : A8) (a9 : A9) (a10 : A10) (a11 : A11), I a1 a2 a3 a4 a5 a6 a7 a8 a9 a10 a11 → (∀ (b1 : A1) (b2 : A2) (b3 : A3) (b4 : A4) (b5 : A5) (b6 : A6) (b7 : A7) (b8 : A8) (b9 : A9) (b10 : A10) (b11 : A11), I b1 b2 b3 b4 b5 b6 b7 b8 b9 b10 b11 → μ b1 b2 b3 b4 b5 b6 b7 b8 b9 b10 b11 < μ a1 a2 a3 a4 a5 a6 a7 a8 a9 a10 a11 → W n b1 b2 b3 b4 b5 b6 b7 b8 b9 b10 b11) → W (n + 1) a1 a2 a3 a4 a5 a6 a7 a8 a9 a10 a11) (a1 : A1) (a2 : A2) (a3 : A3) (a4 : A4) (a5 : A5) (a6 : A6) (a7 : A7) (a8 : A8) (a9 : A9) (a10 : A10) (a11 : A11) (h : I a1 a2 a3 a4 a5 a6 a7 a8 a9 a10 a11) : ∃ n, W n a1 a2 a3 a4 a5 a6 a7 a8 a9 a10 a11 :=
  loop_m (σ := A1 × A2 × A3 × A4 × A5 × A6 × A7 × A8 × A9 × A10 × A11) (fun n s => W n s.1 s.2.1 s.2.2.1 s.2.2.2.1 s.2.2.2.2.1 s.2.2.2.2.2.1 s.2.2.2.2.2.2.1 s.2.2.2.2.2.2.2.1 s.2.2.2.2.2.2.2.2.1 s.2.2.2.2.2.2.2.2.2.1 s.2.2.2.2.2.2.2.2.2.2) (fun s => I s.1 s.2.1 s.2.2.1 s.2.2.2.1 s.2.2.2.2.1 s.2.2.2.2.2.1 s.2.2.2.2.2.2.1 s.2.2.2.2.2.2.2.1 s.2.2.2.2.2.2.2.2.1 s.2.2.2.2.2.2.2.2.2.1 s.2.2.2.2.2.2.2.2.2.2) (fun s => μ s.1 s.2.1 s.2.2.1 s.2.2.2.1 s.2.2.2.2.1 s.2.2.2.2.2.1 s.2.2.2.2.2.2.1 s.2.2.2.2.2.2.2.1 s.2.2.2.2.2.2.2.2.1 s.2.2.2.2.2.2.2.2.2.1 s.2.2.2.2.2.2.2.2.2.2) (fun n s hI hk => hs n s.1 s.2.1 s.2.2.1 s.2.2.2.1 s.2.2.2.2.1 s.2.2.2.2.2.1 s.2.2.2.2.2.2.1 s.2.2.2.2.2.2.2.1 s.2.2.2.2.2.2.2.2.1 s.2.2.2.2.2.2.2.2.2.1 s.2.2.2.2.2.2.2.2.2.2 hI (fun b1 b2 b3 b4 b5 b6 b7 b8 b9 b10 b11 h9 hm => hk (b1, b2, b3, b4, b5, b6, b7, b8, b9, b10, b11) h9 hm)) (a1, a2, a3, a4, a5, a6, a7, a8, a9, a10, a11) h
theorem lp12 {A1 A2 A3 A4 A5 A6 A7 A8 A9 A10 A11 A12 : Type} (W : Nat → A1 → A2 → A3 → A4 → A5 → A6 → A7 → A8 → A9 → A10 → A11 → A12 → Prop) (I : A1 → A2 → A3 → A4 → A5 → A6 → A7 → A8 → A9 → A10 → A11 → A12 → Prop) (μ : A1 → A2 → A3 → A4 → A5 → A6 → A7 → A8 → A9 → A10 → A11 → A12 → Nat) (hs : ∀ (n : Nat) (a1 : A1) (a2 : A2) (a3 : A3) (a4 : A4) (a5 : A5) (a6 : A6) (a7 : A7) (a8 : A8) (a9 : A9) (a10 : A10) (a11 : A11) (a12 : A12), I a1 a2 a3 a4 a5 a6 a7 a8 a9 a10 a11 a12 → (∀ (b1 : A1) (b2 : A2) (b3 : A3) (b4 : A4) (b5 : A5) (b6 : A6) (b7 : A7) (b8 : A8) (b9 : A9) (b10 : A10) (b11 : A11) (b12 : A12), I b1 b2 b3 b4 b5 b6 b7 b8 b9 b10 b11 b12 → μ b1 b2 b3 b4 b5 b6 b7 b8 b9 b10 b11 b12 < μ a1 a2 a3 a4 a5 a6 a7 a8 a9 a10 a11 a12 → W n b1 b2 b3 b4 b5 b6 b7 b8 b9 b10 b11 b12) → W (n + 1) a1 a2 a3 a4 a5 a6 a7 a8 a9 a10 a11 a12) (a1 : A1) (a2 : A2) (a3 : A3) (a4 : A4) (a5 : A5) (a6 : A6) (a7 : A7) (a8 : A8) (a9 : A9) (a10 : A10) (a11 : A11) (a12 : A12) (h : I a1 a2 a3 a4 a5 a6 a7 a8 a9 a10 a11 a12) : ∃ n, W n a1 a2 a3 a4 a5 a6 a7 a8 a9 a10 a11 a12 :=
  loop_m (σ := A1 × A2 × A3 × A4 × A5 × A6 × A7 × A8 × A9 × A10 × A11 × A12) (fun n s => W n s.1 s.2.1 s.2.2.1 s.2.2.2.1 s.2.2.2.2.1 s.2.2.2.2.2.1 s.2.2.2.2.2.2.1 s.2.2.2.2.2.2.2.1 s.2.2.2.2.2.2.2.2.1 s.2.2.2.2.2.2.2.2.2.1 s.2.2.2.2.2.2.2.2.2.2.1 s.2.2.2.2.2.2.2.2.2.2.2) (fun s => I s.1 s.2.1 s.2.2.1 s.2.2.2.1 s.2.2.2.2.1 s.2.2.2.2.2.1 s.2.2.2.2.2.2.1 s.2.2.2.2.2.2.2.1 s.2.2.2.2.2.2.2.2.1 s.2.2.2.2.2.2.2.2.2.1 s.2.2.2.2.2.2.2.2.2.2.1 s.2.2.2.2.2.2.2.2.2.2.2) (fun s => μ s.1 s.2.1 s.2.2.1 s.2.2.2.1 s.2.2.2.2.1 s.2.2.2.2.2.1 s.2.2.2.2.2.2.1 s.2.2.2.2.2.2.2.1 s.2.2.2.2.2.2.2.2.1 s.2.2.2.2.2.2.2.2.2.1 s.2.2.2.2.2.2.2.2.2.2.1 s.2.2.2.2.2.2.2.2.2.2.2) (fun n s hI hk => hs n s.1 s.2.1 s.2.2.1 s.2.2.2.1 s.2.2.2.2.1 s.2.2.2.2.2.1 s.2.2.2.2.2.2.1 s.2.2.2.2.2.2.2.1 s.2.2.2.2.2.2.2.2.1 s.2.2.2.2.2.2.2.2.2.1 s.2.2.2.2.2.2.2.2.2.2.1 s.2.2.2.2.2.2.2.2.2.2.2 hI (fun b1 b2 b3 b4 b5 b6 b7 b8 b9 b10 b11 b12 h9 hm => hk (b1, b2, b3, b4, b5, b6, b7, b8, b9, b10, b11, b12) h9 hm)) (a1, a2, a3, a4, a5, a6, a7, a8, a9, a10, a11, a12) h
theorem lp13 {A1 A2 A3 A4 A5 A6 A7 A8 A9 A10 A11 A12 A13 : Type} (W : Nat → A1 → A2 → A3 → A4 → A5 → A6 → A7 → A8 → A9 → A10 → A11 → A12 → A13 → Prop) (I : A1 → A2 → A3 → A4 → A5 → A6 → A7 → A8 → A9 → A10 → A11 → A12 → A13 → Prop) (μ : A1 → A2 → A3 → A4 → A5 → A6 → A7 → A8 → A9 → A10 → A11 → A12 → A13 → Nat) (hs : ∀ (n : Nat) (a1 : A1) (a2 : A2) (a3 : A3) (a4 : A4) (a5 : A5) (a6 : A6) (a7 : A7) (a8 : A8) (a9 : A9) (a10 : A10) (a11 : A11) (a12 : A12) (a13 : A13), I a1 a2 a3 a4 a5 a6 a7 a8 a9 a10 a11 a12 a13 → (∀ (b1 : A1) (b2 : A2) (b3 : A3) (b4 : A4) (b5 : A5) (b6 : A6) (b7 : A7) (b8 : A8) (b9 : A9) (b10 : A10) (b11 : A11) (b12 : A12) (b13 : A13), I b1 b2 b3 b4 b5 b6 b7 b8 b9 b10 b11 b12 b13 → μ b1 b2 b3 b4 b5 b6 b7 b8 b9 b10 b11 b12 b13 < μ a1 a2 a3 a4 a5 a6 a7 a8 a9 a10 a11 a12 a13 → W n b1 b2 b3 b4 b5 b6 b7 b8 b9 b10 b11 b12 b13) → W (n + 1) a1 a2 a3 a4 a5 a6 a7 a8 a9 a10 a11 a12 a13) (a1 : A1) (a2 : A2) (a3 : A3) (a4 : A4) (a5 : A5) (a6 : A6) (a7 : A7) (a8 : A8) (a9 : A9) (a10 : A10) (a11 : A11) (a12 : A12) (a13 : A13) (h : I a1 a2 a3 a4 a5 a6 a7 a8 a9 a10 a11 a12 a13) : ∃ n, W n a1 a2 a3 a4 a5 a6 a7 a8 a9 a10 a11 a12 a13 :=
  loop_m (σ := A1 × A2 × A3 × A4 × A5 × A6 × A7 × A8 × A9 × A10 × A11 × A12 × A13) (fun n s => W n s.1 s.2.1 s.2.2.1 s.2.2.2.1 s.2.2.2.2.1 s.2.2.2.2.2.1 s.2.2.2.2.2.2.1 s.2.2.2.2.2.2.2.1 s.2.2.2.2.2.2.2.2.1 s.2.2.2.2.2.2.2.2.2.1 s.2.2.2.2.2.2.2.2.2.2.1 s.2.2.2.2.2.2.2.2.2.2.2.1 s.2.2.2.2.2.2.2.2.2.2.2.2) (fun s => I s.1 s.2.1 s.2.2.1 s.2.2.2.1 s.2.2.2.2.1 s.2.2.2.2.2.1 s.2.2.2.2.2.2.1 s.2.2.2.2.2.2.2.1 s.2.2.2.2.2.2.2.2.1 s.2.2.2.2.2.2.2.2.2.1 s.2.2.2.2.2.2.2.2.2.2.1 s.2.2.2.2.2.2.2.2.2.2.2.1 s.2.2.2.2.2.2.2.2.2.2.2.2) (fun s => μ s.1 s.2.1 s.2.2.1 s.2.2.2.1 s.2.2.2.2.1 s.2.2.2.2.2.1 s.2.2.2.2.2.2.1 s.2.2.2.2.2.2.2.1 s.2.2.2.2.2.2.2.2.1 s.2.2.2.2.2.2.2.2.2.1 s.2.2.2.2.2.2.2.2.2.2.1 s.2.2.2.2.2.2.2.2.2.2.2.1 s.2.2.2.2.2.2.2.2.2.2.2.2) (fun n s hI hk => hs n s.1 s.2.1 s.2.2.1 s.2.2.2.1 s.2.2.2.2.1 s.2.2.2.2.2.1 s.2.2.2.2.2.2.1 s.2.2.2.2.2.2.2.1 s.2.2.2.2.2.2.2.2.1 s.2.2.2.2.2.2.2.2.2.1 s.2.2.2.2.2.2.2.2.2.2.1 s.2.2.2.2.2.2.2.2.2.2.2.1 s.2.2.2.2.2.2.2.2.2.2.2.2 hI (fun b1 b2 b3 b4 b5 b6 b7 b8 b9 b10 b11 b12 b13 h9 hm => hk (b1, b2, b3, b4, b5, b6, b7, b8, b9, b10, b11, b12, b13) h9 hm)) (a1, a2, a3, a4, a5, a6, a7, a8, a9, a10, a11, a12, a13) h
theorem lp14 {A1 A2 A3 A4 A5 A6 A7 A8 A9 A10 A11 A12 A13 A14 : Type} (W : Nat → A1 → A2 → A3 → A4 → A5 → A6 → A7 → A8 → A9 → A10 → A11 → A12 → A13 → A14 → Prop) (I : A1 → A2 → A3 → A4 → A5 → A6 → A7 → A8 → A9 → A10 → A11 → A12 → A13 → A14 → Prop) (μ : A1 → A2 → A3 → A4 → A5 → A6 → A7 → A8 → A9 → A10 → A11 → A12 → A13 → A14 → Nat) (hs : ∀ (n : Nat) (a1 : A1) (a2 : A2) (a3 : A3) (a4 : A4) (a5 : A5) (a6 : A6) (a7 : A7) (a8 : A8) (a9 : A9) (a10 : A10) (a11 : A11) (a12 : A12) (a13 : A13) (a14 : A14), I a1 a2 a3 a4 a5 a6 a7 a8 a9 a10 a11 a12 a13 a14 → (∀ (b1 : A1) (b2 : A2) (b3 : A3) (b4 : A4) (b5 : A5) (b6 : A6) (b7 : A7) (b8 : A8) (b9 : A9) (b10 : A10) (b11 : A11) (b12 : A12) (b13 : A13) (b14 : A14), I b1 b2 b3 b4 b5 b6 b7 b8 b9 b10 b11 b12 b13 b14 → μ b1 b2 b3 b4 b5 b6 b7 b8 b9 b10 b11 b12 b13 b14 < μ a1 a2 a3 a4 a5 a6 a7 a8 a9 a10 a11 a12 a13 a14 → W n b1 b2 b3 b4 b5 b6 b7 b8 b9 b10 b11 b12 b13 b14) → W (n + 1) a1 a2 a3 a4 a5 a6 a7 a8 a9 a10 a11 a12 a13 a14) (a1 : A1) (a2 : A2) (a3 : A3) (a4 : A4) (a5 : A5) (a6 : A6) (a7 : A7) (a8 : A8) (a9 : A9) (a10 : A10) (a11 : A11) (a12 : A12) (a13 : A13) (a14 : A14) (h : I a1 a2 a3 a4 a5 a6 a7 a8 a9 a10 a11 a12 a13 a14) : ∃ n, W n a1 a2 a3 a4 a5 a6 a7 a8 a9 a10 a11 a12 a13 a14 :=
  loop_m (σ := A1 × A2 × A3 × A4 × A5 × A6 × A7 × A8 × A9 × A10 × A11 × A12 × A13 × A14) (fun n s => W n s.1 s.2.1 s.2.2.1 s.2.2.2.1 s.2.2.2.2.1 s.2.2.2.2.2.1 s.2.2.2.2.2.2.1 s.2.2.2.2.2.2.2.1 s.2.2.2.2.2.2.2.2.1 s.2.2.2.2.2.2.2.2.2.1 s.2.2.2.2.2.2.2.2.2.2.1 s.2.2.2.2.2.2.2.2.2.2.2.1 s.2.2.2.2.2.2.2.2.2.2.2.2.1 s.2.2.2.2.2.2.2.2.2.2.2.2.2) (fun s => I s.1 s.2.1 s.2.2.1 s.2.2.2.1 s.2.2.2.2.1 s.2.2.2.2.2.1 s.2.2.2.2.2.2.1 s.2.2.2.2.2.2.2.1 s.2.2.2.2.2.2.2.2.1 s.2.2.2.2.2.2.2.2.2.1 s.2.2.2.2.2.2.2.2.2.2.1 s.2.2.2.2.2.2.2.2.2.2.2.1 s.2.2.2.2.2.2.2.2.2.2.2.2.1 s.2.2.2.2.2.2.2.2.2.2.2.2.2) (fun s => μ s.1 s.2.1 s.2.2.1 s.2.2.2.1 s.2.2.2.2.1 s.2.2.2.2.2.1 s.2.2.2.2.2.2.1 s.2.2.2.2.2.2.2.1 s.2.2.2.2.2.2.2.2.1 s.2.2.2.2.2.2.2.2.2.1 s.2.2.2.2.2.2.2.2.2.2.1 s.2.2.2.2.2.2.2.2.2.2.2.1 s.2.2.2.2.2.2.2.2.2.2.2.2.1 s.2.2.2.2.2.2.2.2.2.2.2.2.2) (fun n s hI hk => hs n s.1 s.2.1 s.2.2.1 s.2.2.2.1 s.2.2.2.2.1 s.2.2.2.2.2.1 s.2.2.2.2.2.2.1 s.2.2.2.2.2.2.2.1 s.2.2.2.2.2.2.2.2.1 s.2.2.2.2.2.2.2.2.2.1 s.2.2.2.2.2.2.2.2.2.2.1 s.2.2.2.2.2.2.2.2.2.2.2.1 s.2.2.2.2.2.2.2.2.2.2.2.2.1 s.2.2.2.2.2.2.2.2.2.2.2.2.2 hI (fun b1 b2 b3 b4 b5 b6 b7 b8 b9 b10 b11 b12 b13 b14 h9 hm => hk (b1, b2, b3, b4, b5, b6, b7, b8, b9, b10, b11, b12, b13, b14) h9 hm)) (a1, a2, a3, a4, a5, a6, a7, a8, a9, a10, a11, a12, a13, a14) h
theorem lp15 {A1 A2 A3 A4 A5 A6 A7 A8 A9 A10 A11 A12 A13 A14 A15 : Type} (W : Nat → A1 → A2 → A3 → A4 → A5 → A6 → A7 → A8 → A9 → A10 → A11 → A12 → A13 → A14 → A15 → Prop) (I : A1 → A2 → A3 → A4 → A5 → A6 → A7 → A8 → A9 → A10 → A11 → A12 → A13 → A14 → A15 → Prop) (μ : A1 → A2 → A3 → A4 → A5 → A6 → A7 → A8 → A9 → A10 → A11 → A12 → A13 → A14 → A15 → Nat) (hs : ∀ (n : Nat) (a1 : A1) (a2 : A2) (a3 : A3) (a4 : A4) (a5 : A5) (a6 : A6) (a7 : A7) (a8 : A8) (a9 : A9) (a10 : A10) (a11 : A11) (a12 : A12) (a13 : A13) (a14 : A14) (a15 : A15), I a1 a2 a3 a4 a5 a6 a7 a8 a9 a10 a11 a12 a13 a14 a15 → (∀ (b1 : A1) (b2 : A2) (b3 : A3) (b4 : A4) (b5 : A5) (b6 : A6) (b7 : A7) (b8 : A8) (b9 : A9) (b10 : A10) (b11 : A11) (b12 : A12) (b13 : A13) (b14 : A14) (b15 : A15), I b1 b2 b3 b4 b5 b6 b7 b8 b9 b10 b11 b12 b13 b14 b15 → μ b1 b2 b3 b4 b5 b6 b7 b8 b9 b10 b11 b12 b13 b14 b15 < μ a1 a2 a3 a4 a5 a6 a7 a8 a9 a10 a11 a12 a13 a14 a15 → W n b1 b2 b3 b4 b5 b6 b7 b8 b9 b10 b11 b12 b13 b14 b15) → W (n + 1) a1 a2 a3 a4 a5 a6 a7 a8 a9 a10 a11 a12 a13 a14 a15) (a1 : A1) (a2 : A2) (a3 : A3) (a4 : A4) (a5 : A5) (a6 : A6) (a7 : A7) (a8 : A8) (a9 : A9) (a10 : A10) (a11 : A11) (a12 : A12) (a13 : A13) (a14 : A14) (a15 : A15) (h : I a1 a2 a3 a4 a5 a6 a7 a8 a9 a10 a11 a12 a13 a14 a15) : ∃ n, W n a1 a2 a3 a4 a5 a6 a7 a8 a9 a10 a11 a12 a13 a14 a15 :=
  loop_m (σ := A1 × A2 × A3 × A4 × A5 × A6 × A7 × A8 × A9 × A10 × A11 × A12 × A13 × A14 × A15) (fun n s => W n s.1 s.2.1 s.2.2.1 s.2.2.2.1 s.2.2.2.2.1 s.2.2.2.2.2.1 s.2.2.2.2.2.2.1 s.2.2.2.2.2.2.2.1 s.2.2.2.2.2.2.2.2.1 s.2.2.2.2.2.2.2.2.2.1 s.2.2.2.2.2.2.2.2.2.2.1 s.2.2.2.2.2.2.2.2.2.2.2.1 s.2.2.2.2.2.2.2.2.2.2.2.2.1 s.2.2.2.2.2.2.2.2.2.2.2.2.2.1 s.2.2.2.2.2.2.2.2.2.2.2.2.2.2) (fun s => I s.1 s.2.1 s.2.2.1 s.2.2.2.1 s.2.2.2.2.1 s.2.2.2.2.2.1 s.2.2.2.2.2.2.1 s.2.2.2.2.2.2.2.1 s.2.2.2.2.2.2.2.2.1 s.2.2.2.2.2.2.2.2.2.1 s.2.2.2.2.2.2.2.2.2.2.1 s.2.2.2.2.2.2.2.2.2.2.2.1 s.2.2.2.2.2.2.2.2.2.2.2.2.1 s.2.2.2.2.2.2.2.2.2.2.2.2.2.1 s.2.2.2.2.2.2.2.2.2.2.2.2.2.2) (fun s => μ s.1 s.2.1 s.2.2.1 s.2.2.2.1 s.2.2.2.2.1 s.2.2.2.2.2.1 s.2.2.2.2.2.2.1 s.2.2.2.2.2.2.2.1 s.2.2.2.2.2.2.2.2.1 s.2.2.2.2.2.2.2.2.2.1 s.2.2.2.2.2.2.2.2.2.2.1 s.2.2.2.2.2.2.2.2.2.2.2.1 s.2.2.2.2.2.2.2.2.2.2.2.2.1 s.2.2.2.2.2.2.2.2.2.2.2.2.2.1 s.2.2.2.2.2.2.2.2.2.2.2.2.2.2) (fun n s hI hk => hs n s.1 s.2.1 s.2.2.1 s.2.2.2.1 s.2.2.2.2.1 s.2.2.2.2.2.1 s.2.2.2.2.2.2.1 s.2.2.2.2.2.2.2.1 s.2.2.2.2.2.2.2.2.1 s.2.2.2.2.2.2.2.2.2.1 s.2.2.2.2.2.2.2.2.2.2.1 s.2.2.2.2.2.2.2.2.2.2.2.1 s.2.2.2.2.2.2.2.2.2.2.2.2.1 s.2.2.2.2.2.2.2.2.2.2.2.2.2.1 s.2.2.2.2.2.2.2.2.2.2.2.2.2.2 hI (fun b1 b2 b3 b4 b5 b6 b7 b8 b9 b10 b11 b12 b13 b14 b15 h9 hm => hk (b1, b2, b3, b4, b5, b6, b7, b8, b9, b10, b11, b12, b13, b14, b15) h9 hm)) (a1, a2, a3, a4, a5, a6, a7, a8, a9, a10, a11, a12, a13, a14, a15) h
theorem lp16 {A1 A2 A3 A4 A5 A6 A7 A8 A9 A10 A11 A12 A13 A14 A15 A16 : Type} (W : Nat → A1 → A2 → A3 → A4 → A5 → A6 → A7 → A8 → A9 → A10 → A11 → A12 → A13 → A14 → A15 → A16 → Prop) (I : A1 → A2 → A3 → A4 → A5 → A6 → A7 → A8 → A9 → A10 → A11 → A12 → A13 → A14 → A15 → A16 → Prop) (μ : A1 → A2 → A3 → A4 → A5 → A6 → A7 → A8 → A9 → A10 → A11 → A12 → A13 → A14 → A15 → A16 → Nat) (hs : ∀ (n : Nat) (a1 : A1) (a2 : A2) (a3 : A3) (a4 : A4) (a5 : A5) (a6 : A6) (a7 : A7) (a8 : A8) (a9 : A9) (a10 : A10) (a11 : A11) (a12 : A12) (a13 : A13) (a14 : A14) (a15 : A15) (a16 : A16), I a1 a2 a3 a4 a5 a6 a7 a8 a9 a10 a11 a12 a13 a14 a15 a16 → (∀ (b1 : A1) (b2 : A2) (b3 : A3) (b4 : A4) (b5 : A5) (b6 : A6) (b7 : A7) (b8 : A8) (b9 : A9) (b10 : A10) (b11 : A11) (b12 : A12) (b13 : A13) (b14 : A14) (b15 : A15) (b16 : A16), I b1 b2 b3 b4 b5 b6 b7 b8 b9 b10 b11 b12 b13 b14 b15 b16 → μ b1 b2 b3 b4 b5 b6 b7 b8 b9 b10 b11 b12 b13 b14 b15 b16 < μ a1 a2 a3 a4 a5 a6 a7 a8 a9 a10 a11 a12 a13 a14 a15 a16 → W n b1 b2 b3 b4 b5 b6 b7 b8 b9 b10 b11 b12 b13 b14 b15 b16) → W (n + 1) a1 a2 a3 a4 a5 a6 a7 a8 a9 a10 a11 a12 a13 a14 a15 a16) (a1 : A1) (a2 : A2) (a3 : A3) (a4 : A4) (a5 : A5) (a6 : A6) (a7 : A7) (a8 : A8) (a9 : A9) (a10 : A10) (a11 : A11) (a12 : A12) (a13 : A13) (a14 : A14) (a15 : A15) (a16 : A16) (h : I a1 a2 a3 a4 a5 a6 a7 a8 a9 a10 a11 a12 a13 a14 a15 a16) : ∃ n, W n a1 a2 a3 a4 a5 a6 a7 a8 a9 a10 a11 a12 a13 a14 a15 a16 :=
  loop_m (σ := A1 × A2 × A3 × A4 × A5 × A6 × A7 × A8 × A9 × A10 × A11 × A12 × A13 × A14 × A15 × A16) (fun n s => W n s.1 s.2.1 s.2.2.1 s.2.2.2.1 s.2.2.2.2.1 s.2.2.2.2.2.1 s.2.2.2.2.2.2.1 s.2.2.2.2.2.2.2.1 s.2.2.2.2.2.2.2.2.1 s.2.2.2.2.2.2.2.2.2.1 s.2.2.2.2.2.2.2.2.2.2.1 s.2.2.2.2.2.2.2.2.2.2.2.1 s.2.2.2.2.2.2.2.2.2.2.2.2.1 s.2.2.2.2.2.2.2.2.2.2.2.2.2.1 s.2.2.2.2.2.2.2.2.2.2.2.2.2.2.1 s.2.2.2.2.2.2.2.2.2.2.2.2.2.2.2) (fun s => I s.1 s.2.1 s.2.2.1 s.2.2.2.1 s.2.2.2.2.1 s.2.2.2.2.2.1 s.2.2.2.2.2.2.1 s.2.2.2.2.2.2.2.1 s.2.2.2.2.2.2.2.2.1 s.2.2.2.2.2.2.2.2.2.1 s.2.2.2.2.2.2.2.2.2.2.1 s.2.2.2.2.2.2.2.2.2.2.2.1 s.2.2.2.2.2.2.2.2.2.2.2.2.1 s.2.2.2.2.2.2.2.2.2.2.2.2.2.1 s.2.2.2.2.2.2.2.2.2.2.2.2.2.2.1 s.2.2.2.2.2.2.2.2.2.2.2.2.2.2.2) (fun s => μ s.1 s.2.1 s.2.2.1 s.2.2.2.1 s.2.2.2.2.1 s.2.2.2.2.2.1 s.2.2.2.2.2.2.1 s.2.2.2.2.2.2.2.1 s.2.2.2.2.2.2.2.2.1 s.2.2.2.2.2.2.2.2.2.1 s.2.2.2.2.2.2.2.2.2.2.1 s.2.2.2.2.2.2.2.2.2.2.2.1 s.2.2.2.2.2.2.2.2.2.2.2.2.1 s.2.2.2.2.2.2.2.2.2.2.2.2.2.1 s.2.2.2.2.2.2.2.2.2.2.2.2.2.2.1 s.2.2.2.2.2.2.2.2.2.2.2.2.2.2.2) (fun n s hI hk => hs n s.1 s.2.1 s.2.2.1 s.2.2.2.1 s.2.2.2.2.1 s.2.2.2.2.2.1 s.2.2.2.2.2.2.1 s.2.2.2.2.2.2.2.1 s.2.2.2.2.2.2.2.2.1 s.2.2.2.2.2.2.2.2.2.1 s.2.2.2.2.2.2.2.2.2.2.1 s.2.2.2.2.2.2.2.2.2.2.2.1 s.2.2.2.2.2.2.2.2.2.2.2.2.1 s.2.2.2.2.2.2.2.2.2.2.2.2.2.1 s.2.2.2.2.2.2.2.2.2.2.2.2.2.2.1 s.2.2.2.2.2.2.2.2.2.2.2.2.2.2.2 hI (fun b1 b2 b3 b4 b5 b6 b7 b8 b9 b10 b11 b12 b13 b14 b15 b16 h9 hm => hk (b1, b2, b3, b4, b5, b6, b7, b8, b9, b10, b11, b12, b13, b14, b15, b16) h9 hm)) (a1, a2, a3, a4, a5, a6, a7, a8, a9, a10, a11, a12, a13, a14, a15, a16) h
theorem pk_least (P : Nat → Prop) (h : ∃ k, P k) : ∃ k, P k ∧ ∀ j, j < k → ¬ P j := by
  obtain ⟨k, hk⟩ := h
  induction k using Nat.strongRecOn with
  | ind k ih =>
    by_cases e : ∃ j, j < k ∧ P j
    · obtain ⟨j, hj, pj⟩ := e
      exact ih j hj pj
    · exact ⟨k, hk, fun j hj pj => e ⟨j, hj, pj⟩⟩
theorem rp1 {ρ A1 : Type} (W : Nat → (ρ → Prop) → A1 → Prop) (ok : A1 → Prop) (μ : A1 → Nat) (val : A1 → ρ)
    (hs : ∀ (d : Nat) (post : ρ → Prop) (a1 : A1), ok a1 → post (val a1) → (∀ (post' : ρ → Prop) (b1 : A1), ok b1 → μ b1 < μ a1 → post' (val b1) → W d post' b1) → W (d + 1) post a1) :
    ∀ (d : Nat) (post : ρ → Prop) (a1 : A1), ok a1 → μ a1 < d → post (val a1) → W d post a1 := by
  intro d
  induction d with
  | zero => intro post a1 _ h; omega
  | succ d ih =>
    intro post a1 ho hm hp
    exact hs d post a1 ho hp (fun post' b1 ho' hm' hp' => ih post' b1 ho' (by omega) hp')
theorem rp2 {ρ A1 A2 : Type} (W : Nat → (ρ → Prop) → A1 → A2 → Prop) (ok : A1 → A2 → Prop) (μ : A1 → A2 → Nat) (val : A1 → A2 → ρ)
    (hs : ∀ (d : Nat) (post : ρ → Prop) (a1 : A1) (a2 : A2), ok a1 a2 → post (val a1 a2) → (∀ (post' : ρ → Prop) (b1 : A1) (b2 : A2), ok b1 b2 → μ b1 b2 < μ a1 a2 → post' (val b1 b2) → W d post' b1 b2) → W (d + 1) post a1 a2) :
    ∀ (d : Nat) (post : ρ → Prop) (a1 : A1) (a2 : A2), ok a1 a2 → μ a1 a2 < d → post (val a1 a2) → W d post a1 a2 := by
  intro d
  induction d with
  | zero => intro post a1 a2 _ h; omega
  | succ d ih =>
    intro post a1 a2 ho hm hp
    exact hs d post a1 a2 ho hp (fun post' b1 b2 ho' hm' hp' => ih post' b1 b2 ho' (by omega) hp')
theorem rp3 {ρ A1 A2 A3 : Type} (W : Nat → (ρ → Prop) → A1 → A2 → A3 → Prop) (ok : A1 → A2 → A3 → Prop) (μ : A1 → A2 → A3 → Nat) (val : A1 → A2 → A3 → ρ)
    (hs : ∀ (d : Nat) (post : ρ → Prop) (a1 : A1) (a2 : A2) (a3 : A3), ok a1 a2 a3 → post (val a1 a2 a3) → (∀ (post' : ρ → Prop) (b1 : A1) (b2 : A2) (b3 : A3), ok b1 b2 b3 → μ b1 b2 b3 < μ a1 a2 a3 → post' (val b1 b2 b3) → W d post' b1 b2 b3) → W (d + 1) post a1 a2 a3) :
    ∀ (d : Nat) (post : ρ → Prop) (a1 : A1) (a2 : A2) (a3 : A3), ok a1 a2 a3 → μ a1 a2 a3 < d → post (val a1 a2 a3) → W d post a1 a2 a3 := by
  intro d
  induction d with
  | zero => intro post a1 a2 a3 _ h; omega
  | succ d ih =>
    intro post a1 a2 a3 ho hm hp
    exact hs d post a1 a2 a3 ho hp (fun post' b1 b2 b3 ho' hm' hp' => ih post' b1 b2 b3 ho' (by omega) hp')
theorem rp4 {ρ A1 A2 A3 A4 : Type} (W : Nat → (ρ → Prop) → A1 → A2 → A3 → A4 → Prop) (ok : A1 → A2 → A3 → A4 → Prop) (μ : A1 → A2 → A3 → A4 → Nat) (val : A1 → A2 → A3 → A4 → ρ)
    (hs : ∀ (d : Nat) (post : ρ → Prop) (a1 : A1) (a2 : A2) (a3 : A3) (a4 : A4), ok a1 a2 a3 a4 → post (val a1 a2 a3 a4) → (∀ (post' : ρ → Prop) (b1 : A1) (b2 : A2) (b3 : A3) (b4 : A4), ok b1 b2 b3 b4 → μ b1 b2 b3 b4 < μ a1 a2 a3 a4 → post' (val b1 b2 b3 b4) → W d post' b1 b2 b3 b4) → W (d + 1) post a1 a2 a3 a4) :
    ∀ (d : Nat) (post : ρ → Prop) (a1 : A1) (a2 : A2) (a3 : A3) (a4 : A4), ok a1 a2 a3 a4 → μ a1 a2 a3 a4 < d → post (val a1 a2 a3 a4) → W d post a1 a2 a3 a4 := by
  intro d
  induction d with
  | zero => intro post a1 a2 a3 a4 _ h; omega
  | succ d ih =>
    intro post a1 a2 a3 a4 ho hm hp
    exact hs d post a1 a2 a3 a4 ho hp (fun post' b1 b2 b3 b4 ho' hm' hp' => ih post' b1 b2 b3 b4 ho' (by omega) hp')
theorem rp5 {ρ A1 A2 A3 A4 A5 : Type} (W : Nat → (ρ → Prop) → A1 → A2 → A3 → A4 → A5 → Prop) (ok : A1 → A2 → A3 → A4 → A5 → Prop) (μ : A1 → A2 → A3 → A4 → A5 → Nat) (val : A1 → A2 → A3 → A4 → A5 → ρ)
    (hs : ∀ (d : Nat) (post : ρ → Prop) (a1 : A1) (a2 : A2) (a3 : A3) (a4 : A4) (a5 : A5), ok a1 a2 a3 a4 a5 → post (val a1 a2 a3 a4 a5) → (∀ (post' : ρ → Prop) (b1 : A1) (b2 : A2) (b3 : A3) (b4 : A4) (b5 : A5), ok b1 b2 b3 b4 b5 → μ b1 b2 b3 b4 b5 < μ a1 a2 a3 a4 a5 → post' (val b1 b2 b3 b4 b5) → W d post' b1 b2 b3 b4 b5) → W (d + 1) post a1 a2 a3 a4 a5) :
    ∀ (d : Nat) (post : ρ → Prop) (a1 : A1) (a2 : A2) (a3 : A3) (a4 : A4) (a5 : A5), ok a1 a2 a3 a4 a5 → μ a1 a2 a3 a4 a5 < d → post (val a1 a2 a3 a4 a5) → W d post a1 a2 a3 a4 a5 := by
  intro d
  induction d with
  | zero => intro post a1 a2 a3 a4 a5 _ h; omega
  | succ d ih =>
    intro post a1 a2 a3 a4 a5 ho hm hp
    exact hs d post a1 a2 a3 a4 a5 ho hp (fun post' b1 b2 b3 b4 b5 ho' hm' hp' => ih post' b1 b2 b3 b4 b5 ho' (by omega) hp')
theorem rp6 {ρ A1 A2 A3 A4 A5 A6 : Type} (W : Nat → (ρ → Prop) → A1 → A2 → A3 → A4 → A5 → A6 → Prop) (ok : A1 → A2 → A3 → A4 → A5 → A6 → Prop) (μ : A1 → A2 → A3 → A4 → A5 → A6 → Nat) (val : A1 → A2 → A3 → A4 → A5 → A6 → ρ)
    (hs : ∀ (d : Nat) (post : ρ → Prop) (a1 : A1) (a2 : A2) (a3 : A3) (a4 : A4) (a5 : A5) (a6 : A6), ok a1 a2 a3 a4 a5 a6 → post (val a1 a2 a3 a4 a5 a6) → (∀ (post' : ρ → Prop) (b1 : A1) (b2 : A2) (b3 : A3) (b4 : A4) (b5 : A5) (b6 : A6), ok b1 b2 b3 b4 b5 b6 → μ b1 b2 b3 b4 b5 b6 < μ a1 a2 a3 a4 a5 a6 → post' (val b1 b2 b3 b4 b5 b6) → W d post' b1 b2 b3 b4 b5 b6) → W (d + 1) post a1 a2 a3 a4 a5 a6) :
    ∀ (d : Nat) (post : ρ → Prop) (a1 : A1) (a2 : A2) (a3 : A3) (a4 : A4) (a5 : A5) (a6 : A6), ok a1 a2 a3 a4 a5 a6 → μ a1 a2 a3 a4 a5 a6 < d → post (val a1 a2 a3 a4 a5 a6) → W d post a1 a2 a3 a4 a5 a6 := by
  intro d
  induction d with
  | zero => intro post a1 a2 a3 a4 a5 a6 _ h; omega
  | succ d ih =>
    intro post a1 a2 a3 a4 a5 a6 ho hm hp
    exact hs d post a1 a2 a3 a4 a5 a6 ho hp (fun post' b1 b2 b3 b4 b5 b6 ho' hm' hp' => ih post' b1 b2 b3 b4 b5 b6 ho' (by omega) hp')
theorem rec_p {σ ρ : Type} (W : Nat → (ρ → Prop) → σ → Prop) (ok : σ → Prop) (μ : σ → Nat) (val : σ → ρ)
    (hs : ∀ d s post, ok s → post (val s) → (∀ s' post', ok s' → μ s' < μ s → post' (val s') → W d post' s') → W (d + 1) post s) :
    ∀ d s post, ok s → μ s < d → post (val s) → W d post s := by
  intro d
  induction d with
  | zero => intro s post _ h; omega
  | succ d ih =>
    intro s post ho hm hp
    exact hs d s post ho hp (fun s' post' ho' hm' hp' => ih s' post' ho' (by omega) hp')
theorem rec_q {σ ρ : Type} (W : Nat → (ρ → Prop) → σ → Prop) (ok : σ → Prop) (μ : σ → Nat) (Q : σ → ρ → Prop)
    (hs : ∀ d s post, ok s → (∀ r, Q s r → post r) → (∀ s' post', ok s' → μ s' < μ s → (∀ r, Q s' r → post' r) → W d post' s') → W (d + 1) post s) :
    ∀ d s post, ok s → μ s < d → (∀ r, Q s r → post r) → W d post s := by
  intro d
  induction d with
  | zero => intro s post _ h; omega
  | succ d ih =>
    intro s post ho hm hp
    exact hs d s post ho hp (fun s' post' ho' hm' hp' => ih s' post' ho' (by omega) hp')
def bx_sum (f : Nat → Int32) : Nat → Int32
  | 0 => 0
  | n + 1 => bx_sum f n + f n
theorem ek_u {A : Prop} {B : Nat → Prop} {k N : Nat} (hk : k < N) (h : B k) : (some k = none → A) ∧ (∀ y : Nat, some k = some y → (y < N ∧ B y)) :=
  ⟨fun z => absurd z (Option.some_ne_none k), fun _ e => (by cases e; exact ⟨hk, h⟩)⟩
theorem ek_nu {A : Prop} {B : Nat → Prop} (h : A) : ((none : Option Nat) = none → A) ∧ (∀ y : Nat, (none : Option Nat) = some y → B y) :=
  ⟨fun _ => h, fun _ e => (by cases e)⟩
theorem ek_if {c d A B : Prop} (e : c ↔ d) (f : d → A) (g : ¬ d → B) : (c → A) ∧ (¬ c → B) :=
  ⟨fun z => f (e.mp z), fun z => g (fun y => z (e.mpr y))⟩
theorem ek_v {α : Sort _} {P : α → Prop} {a b : α} (e : a = b) (h : P b) : P a := e ▸ h
theorem co_some {x : Option Nat} {A : Prop} {B : Nat → Prop} (i : Nat) (h : B i) (hx : x = some i := by rfl) : (x = none → A) ∧ (∀ y : Nat, x = some y → B y) := by
  subst hx
  exact ⟨fun e => (nomatch e), fun y e => Option.some.inj e ▸ h⟩
theorem co_none {x : Option Nat} {A : Prop} {B : Nat → Prop} (h : A) (hx : x = none := by rfl) : (x = none → A) ∧ (∀ y : Nat, x = some y → B y) := by
  subst hx
  exact ⟨fun _ => h, fun y e => (nomatch e)⟩
theorem co_any {x : Option Nat} {A : Prop} {B : Nat → Prop} (hn : x = none → A) (hs : ∀ i : Nat, x = some i → B i) : (x = none → A) ∧ (∀ y : Nat, x = some y → B y) := ⟨hn, hs⟩
theorem co_2 {P : Nat → Prop} (h0 : P 0) (h1 : P 1) {i : Nat} (hi : i < 2) : P i :=
  match i, hi with
  | 0, _ => h0
  | 1, _ => h1
theorem co_3 {P : Nat → Prop} (h0 : P 0) (h1 : P 1) (h2 : P 2) {i : Nat} (hi : i < 3) : P i :=
  match i, hi with
  | 0, _ => h0
  | 1, _ => h1
  | 2, _ => h2
theorem co_4 {P : Nat → Prop} (h0 : P 0) (h1 : P 1) (h2 : P 2) (h3 : P 3) {i : Nat} (hi : i < 4) : P i :=
  match i, hi with
  | 0, _ => h0
  | 1, _ => h1
  | 2, _ => h2
  | 3, _ => h3
theorem co_dec {N : Nat} {P : Nat → Prop} [DecidablePred P] (h : (List.range N).all (fun i => decide (P i)) = true) {i : Nat} (hi : i < N) : P i := by
  have := List.all_eq_true.mp h i (List.mem_range.mpr hi)
  exact of_decide_eq_true this
theorem co_tab {α : Type} {l : List α} {d : α} {P : α → Prop} (h : ∀ a, a ∈ l → P a) {i : Nat} (hi : i < l.length) : P (l.getD i d) := by
  rw [List.getD_eq_getElem?_getD, List.getElem?_eq_getElem hi]
  exact h _ (List.getElem_mem hi)
theorem pk_mu {x : Int32} {L : Nat} (h0 : ¬ x < 0) (h : ¬ nI L ≤ x) (hL : L < 2 ^ 31) : ∃ j : Nat, j < L ∧ x = nI j ∧ x + 1 = nI (j + 1) ∧ x.toNatClampNeg = j ∧ L - (x + 1).toNatClampNeg < L - x.toNatClampNeg := by
  obtain ⟨j, hj, rfl⟩ := nI_of h0
  have hl : j < L := Nat.not_le.mp fun q => h (nI_le q hj)
  refine ⟨j, hl, rfl, nI_1 j, nI_clamp hj, ?_⟩
  rw [nI_1, nI_clamp (by omega), nI_clamp hj]
  omega
theorem op_s {α : Type} {r : Option α} {A : Prop} {B : α → Prop} {y : α} (h : r = some y) (b : B y) : (r = none → A) ∧ ∀ z, r = some z → B z :=
  ⟨fun e => (by rw [h] at e; cases e), fun z e => (by rw [h] at e; cases e; exact b)⟩
def l_holds {α : Type} (a : Nat → Option Nat) (LP : List Nat) (p : Nat → α) (c : Nat) (b : Nat → α) : Prop :=
  ∀ j, j < c → ∃ y, a j = some y ∧ y ∈ LP ∧ p y = b j
theorem l_holds_0 {α : Type} {a : Nat → Option Nat} {LP : List Nat} {p b : Nat → α} : l_holds a LP p 0 b := fun j h => absurd h (Nat.not_lt_zero j)
theorem l_in_new (LP : List Nat) (q : Nat) : q ∈ LP ++ [q] := List.mem_append.mpr (Or.inr (List.mem_singleton.mpr rfl))
def l_sum (b : Nat → Int32) : Nat → Int32
  | 0 => 0
  | k + 1 => l_sum b k + b k
theorem sb_shr0 (x : Int32) : x >>> ((0 : Int32) &&& 31) = x := by
  rw [show ((0 : Int32) &&& 31) = 0 by decide]
  simp
theorem sb_shl0 (x : Int32) : x <<< ((0 : Int32) &&& 31) = x := by
  rw [show ((0 : Int32) &&& 31) = 0 by decide]
  simp
theorem sb_cl0 : (0 : Int32).toNatClampNeg = 0 := by decide
theorem sb_m1 {p : Nat} (h : 0 < p) : nI p + (-1) = nI (p - 1) := by
  obtain ⟨q, rfl⟩ : ∃ q, p = q + 1 := ⟨p - 1, by omega⟩
  exact pk_m1 q
def sb_b (c : Nat) : Int32 := (nI c).toInt8.toInt32
theorem sb_byte : ∀ c, c < 256 → sb_b c &&& 255 = nI c ∧ ((nI c).toUInt32 % 65536).toInt32 = nI c ∧ nI c ≤ 255 := by decide +kernel
def sb_Fit (a : Nat → Int32) : Prop := ∀ j, fits .byte (.int (a j)) = true
def sb_Lat (t : Nat → Nat) (n : Nat) (a : Nat → Int32) : Prop := ∀ j, j < n → t j < 256 ∧ a j = sb_b (t j)
theorem sb_fitB (c : Nat) : fits .byte (.int (sb_b c)) = true := pk_fb _
theorem sb_fit0 : sb_Fit (fun _ => 0) := fun _ => by
  show fits .byte (.int 0) = true
  decide
theorem sb_fitU {a : Nat → Int32} {k : Nat} {x : Int32} (h : sb_Fit a) (hx : fits .byte (.int x) = true) : sb_Fit (upd a k x) := by
  intro j
  by_cases e : j = k
  · subst e
    rw [pk_us]
    exact hx
  · rw [pk_un e]
    exact h j
def sb_cat (t : Nat → Nat) (n : Nat) (s : Nat → Nat) : Nat → Nat := fun j => if j < n then t j else s (j - n)
theorem sb_cat_lo {t s : Nat → Nat} {n j : Nat} (h : j < n) : sb_cat t n s j = t j := if_pos h
theorem sb_cat_hi {t s : Nat → Nat} {n j : Nat} : sb_cat t n s (n + j) = s j := by
  show (if n + j < n then t (n + j) else s (n + j - n)) = s j
  rw [if_neg (by omega), Nat.add_sub_cancel_left]
theorem sb_latPut {t s : Nat → Nat} {n w : Nat} {a a' : Nat → Int32} (h : sb_Lat t n a) (hk : ∀ j, j < n → a' j = a j) (hs : ∀ i, i < w → s i < 256 ∧ a' (n + i) = sb_b (s i)) : sb_Lat (sb_cat t n s) (n + w) a' := by
  intro j hj
  by_cases e : j < n
  · rw [sb_cat_lo e, hk j e]
    exact h j e
  · obtain ⟨i, rfl⟩ : ∃ i, j = n + i := ⟨j - n, by omega⟩
    rw [sb_cat_hi]
    exact hs i (by omega)
theorem sb_latKeep {t : Nat → Nat} {n : Nat} {a a' : Nat → Int32} (h : sb_Lat t n a) (hk : ∀ j, j < n → a' j = a j) : sb_Lat t n a' := fun j hj => by
  rw [hk j hj]
  exact h j hj
def sb_cap (q m : Nat) : Nat := if q ≤ m then m else if 2 * m + 2 < q then q else 2 * m + 2
def sb_Room (q m mc ms : Nat) : Prop := q ≤ m ∨ (1 ≤ mc ∧ sb_cap q m ≤ ms ∧ sb_cap q m ≤ 65536)
theorem sb_cap_ge (q m : Nat) : q ≤ sb_cap q m := by
  unfold sb_cap
  split
  · omega
  · split <;> omega
theorem sb_cap_gem (q m : Nat) : m ≤ sb_cap q m := by
  unfold sb_cap
  split
  · omega
  · split <;> omega
theorem sb_cap_le {q m mc ms : Nat} (hm : m ≤ 65536) (hr : sb_Room q m mc ms) : sb_cap q m ≤ 65536 := by
  rcases hr with h | h
  · rw [sb_cap, if_pos h]
    exact hm
  · exact h.2.2
theorem sb_at {P : Int32 → Prop} {x y : Int32} (e : x = y) (h : P y) : P x := e ▸ h
def sb_dg (w : Nat) : Nat := if w < 10 then 1 else if w < 100 then 2 else if w < 1000 then 3 else if w < 10000 then 4 else if w < 100000 then 5 else if w < 1000000 then 6 else if w < 10000000 then 7 else if w < 100000000 then 8 else if w < 1000000000 then 9 else 10
def sb_dec (v : Nat) : Nat → Nat := fun i => 48 + v / 10 ^ (sb_dg v - 1 - i) % 10
theorem sb_dg_in (w : Nat) : 1 ≤ sb_dg w ∧ sb_dg w ≤ 10 := by
  unfold sb_dg
  constructor <;> (repeat' split) <;> omega
theorem sb_dg100 {w : Nat} (h : 100 ≤ w) (hw : w < 2 ^ 31) : sb_dg w = sb_dg (w / 100) + 2 := by
  rw [sb_dg, sb_dg, if_neg (show ¬ w < 10 by omega), if_neg (show ¬ w < 100 by omega)]
  by_cases h3 : w < 1000
  · rw [if_pos h3, if_pos (show w / 100 < 10 by omega)]
  rw [if_neg h3, if_neg (show ¬ w / 100 < 10 by omega)]
  by_cases h4 : w < 10000
  · rw [if_pos h4, if_pos (show w / 100 < 100 by omega)]
  rw [if_neg h4, if_neg (show ¬ w / 100 < 100 by omega)]
  by_cases h5 : w < 100000
  · rw [if_pos h5, if_pos (show w / 100 < 1000 by omega)]
  rw [if_neg h5, if_neg (show ¬ w / 100 < 1000 by omega)]
  by_cases h6 : w < 1000000
  · rw [if_pos h6, if_pos (show w / 100 < 10000 by omega)]
  rw [if_neg h6, if_neg (show ¬ w / 100 < 10000 by omega)]
  by_cases h7 : w < 10000000
  · rw [if_pos h7, if_pos (show w / 100 < 100000 by omega)]
  rw [if_neg h7, if_neg (show ¬ w / 100 < 100000 by omega)]
  by_cases h8 : w < 100000000
  · rw [if_pos h8, if_pos (show w / 100 < 1000000 by omega)]
  rw [if_neg h8, if_neg (show ¬ w / 100 < 1000000 by omega)]
  by_cases h9 : w < 1000000000
  · rw [if_pos h9, if_pos (show w / 100 < 10000000 by omega)]
  rw [if_neg h9, if_neg (show ¬ w / 100 < 10000000 by omega)]
  rw [if_pos (show w / 100 < 100000000 by omega)]
theorem sb_negT {w : Nat} (h : w < 2 ^ 31) : (-nI w).toInt = -(w : Int) := by
  rw [Int32.toInt_neg, nI_toInt h]
  exact Int.bmod_eq_of_le (by omega) (by omega)
theorem sb_nle {a b : Nat} (ha : a < 2 ^ 31) (hb : b < 2 ^ 31) : -nI a ≤ -nI b ↔ b ≤ a := by
  rw [Int32.le_iff_toInt_le, sb_negT ha, sb_negT hb]
  omega
theorem sb_nlt {a b : Nat} (ha : a < 2 ^ 31) (hb : b < 2 ^ 31) : -nI a < -nI b ↔ b < a := by
  rw [Int32.lt_iff_toInt_lt, sb_negT ha, sb_negT hb]
  omega
theorem sb_cmp {A B : Prop} {x : Int32} (v c : Nat) (f : c ≤ v → A) (g : v < c → B) (hv : v < 2 ^ 31) (hx : x = -nI c := by rfl) (hc : c < 2 ^ 31 := by omega) : (-nI v ≤ x → A) ∧ (¬ -nI v ≤ x → B) := by
  subst hx
  rw [sb_nle hv hc]
  exact ⟨f, fun z => g (by omega)⟩
theorem sb_ndiv {w : Nat} (hw : w < 2 ^ 31) : (-nI w) / 100 = -nI (w / 100) := by
  apply Int32.toInt_inj.mp
  have h100 : (100 : Int32).toInt = 100 := by decide
  rw [Int32.toInt_div, sb_negT hw, h100, sb_negT (by omega), Int.neg_tdiv, Int.tdiv_eq_ediv_of_nonneg (by omega), Int.bmod_eq_of_le (by omega) (by omega)]
  omega
theorem sb_nrem {w : Nat} (hw : w < 2 ^ 31) : (-nI (w / 100)) * 100 - (-nI w) = nI (w % 100) := by
  have h := pk_rem (a := w) (d := 100) hw (by decide) (by decide)
  rw [pk_div hw (by decide) (by decide)] at h
  rw [← h]
  show (-nI (w / 100)) * nI 100 - (-nI w) = nI w - nI (w / 100) * nI 100
  rw [Int32.neg_mul, Int32.sub_neg, Int32.add_comm, ← Int32.sub_eq_add_neg]
end
section
/-! rows on bits, shifts and unsigned numbers, to paste: each family out of a closed proof of our own, whole with what it rests on; each by itself clean at Lean in its own claim (generation 39, form 5). Take a family whole -/
/-! ===== Int32 by its bits: bt x i ===== -/
def bt (x : Int32) (i : Nat) : Bool := x.toBitVec.getLsbD i
theorem b_ext {x y : Int32} (h : ∀ i, i < 32 → bt x i = bt y i) : x = y := Int32.toBitVec_inj.mp (BitVec.eq_of_getLsbD_eq (fun i hi => h i hi))
theorem b_or (x y : Int32) (i : Nat) : bt (x ||| y) i = (bt x i || bt y i) := by unfold bt; rw [Int32.toBitVec_or, BitVec.getLsbD_or]
theorem b_and (x y : Int32) (i : Nat) : bt (x &&& y) i = (bt x i && bt y i) := by unfold bt; rw [Int32.toBitVec_and, BitVec.getLsbD_and]
theorem b_xor (x y : Int32) (i : Nat) : bt (x ^^^ y) i = (bt x i ^^ bt y i) := by unfold bt; rw [Int32.toBitVec_xor, BitVec.getLsbD_xor]
theorem b_big {x : Int32} {i : Nat} (h : 32 ≤ i) : bt x i = false := BitVec.getLsbD_of_ge _ _ h
theorem b_255 (i : Nat) : bt 255 i = decide (i < 8) := by
  rcases Nat.lt_or_ge i 32 with h | h
  · exact (by decide +kernel : ∀ i, i < 32 → bt 255 i = decide (i < 8)) i h
  · rw [b_big h, decide_eq_false (by omega)]
theorem b_65535 (i : Nat) : bt 65535 i = decide (i < 16) := by
  rcases Nat.lt_or_ge i 32 with h | h
  · exact (by decide +kernel : ∀ i, i < 32 → bt 65535 i = decide (i < 16)) i h
  · rw [b_big h, decide_eq_false (by omega)]
theorem b_m1 : ∀ i, i < 32 → bt (-1) i = true := by decide +kernel
theorem b_0 (i : Nat) : bt 0 i = false := BitVec.getLsbD_zero
theorem s_l : ∀ n, n < 32 → ((nI n &&& 31).toBitVec.smod 32).toNat = n := by decide +kernel
theorem s_u : ∀ n, n < 32 → (((nI n).toUInt32 &&& Int32.toUInt32 31).toBitVec % 32).toNat = n := by decide +kernel
theorem b_shl (n : Nat) (hn : n < 32) (x : Int32) {i : Nat} (hi : i < 32) : bt (x <<< (nI n &&& 31)) i = (decide (n ≤ i) && bt x (i - n)) := by
  unfold bt
  rw [Int32.toBitVec_shiftLeft]
  show (x.toBitVec <<< ((nI n &&& 31).toBitVec.smod 32).toNat).getLsbD i = _
  rw [s_l n hn, BitVec.getLsbD_shiftLeft]
  rcases Nat.lt_or_ge i n with h | h
  · simp [h, Nat.not_le.mpr h]
  · simp [hi, h, Nat.not_lt.mpr h]
theorem b_ushr (n : Nat) (hn : n < 32) (x : Int32) (i : Nat) : bt ((x.toUInt32 >>> ((nI n).toUInt32 &&& Int32.toUInt32 31)).toInt32) i = bt x (n + i) := by
  show (x.toUInt32 >>> ((nI n).toUInt32 &&& Int32.toUInt32 31)).toBitVec.getLsbD i = x.toUInt32.toBitVec.getLsbD (n + i)
  rw [UInt32.toBitVec_shiftRight]
  show (x.toUInt32.toBitVec >>> (((nI n).toUInt32 &&& Int32.toUInt32 31).toBitVec % 32).toNat).getLsbD i = _
  rw [s_u n hn, BitVec.getLsbD_ushiftRight]
theorem b_sshr (n : Nat) (hn : n < 32) (x : Int32) {i : Nat} (hi : i < 32) : bt (x >>> (nI n &&& 31)) i = if n + i < 32 then bt x (n + i) else bt x 31 := by
  unfold bt
  rw [Int32.toBitVec_shiftRight]
  show (x.toBitVec.sshiftRight ((nI n &&& 31).toBitVec.smod 32).toNat).getLsbD i = _
  rw [s_l n hn, BitVec.getLsbD_sshiftRight, BitVec.msb_eq_getLsbD_last]
  simp [hi]
theorem b_shl8 (x : Int32) {i : Nat} (hi : i < 32) : bt (x <<< ((8 : Int32) &&& 31)) i = (decide (8 ≤ i) && bt x (i - 8)) := b_shl 8 (by omega) x hi
theorem b_shl16 (x : Int32) {i : Nat} (hi : i < 32) : bt (x <<< ((16 : Int32) &&& 31)) i = (decide (16 ≤ i) && bt x (i - 16)) := b_shl 16 (by omega) x hi
theorem b_shl24 (x : Int32) {i : Nat} (hi : i < 32) : bt (x <<< ((24 : Int32) &&& 31)) i = (decide (24 ≤ i) && bt x (i - 24)) := b_shl 24 (by omega) x hi
theorem b_sshr8 (x : Int32) {i : Nat} (hi : i < 32) : bt (x >>> ((8 : Int32) &&& 31)) i = if 8 + i < 32 then bt x (8 + i) else bt x 31 := b_sshr 8 (by omega) x hi
/-! ===== nI under and, xor, >>>, one bit, 65535 ===== -/
theorem nx_and (a b : Nat) : nI a &&& nI b = nI (a &&& b) := by
  apply Int32.toBitVec_inj.1
  show BitVec.ofNat 32 a &&& BitVec.ofNat 32 b = BitVec.ofNat 32 (a &&& b)
  apply BitVec.eq_of_getLsbD_eq
  intro i hi
  simp [hi]
theorem nx_xor (a b : Nat) : nI a ^^^ nI b = nI (a ^^^ b) := by
  apply Int32.toBitVec_inj.1
  show BitVec.ofNat 32 a ^^^ BitVec.ofNat 32 b = BitVec.ofNat 32 (a ^^^ b)
  apply BitVec.eq_of_getLsbD_eq
  intro i hi
  simp [hi]
theorem nx_cnt : ∀ j : Fin 32, (UInt32.ofNat j.val &&& Int32.toUInt32 31).toNat % 32 = j.val := by decide +kernel
theorem nx_ush {k j : Nat} (hk : k < 65536) (hj : j < 32) : ((nI k).toUInt32 >>> ((nI j).toUInt32 &&& Int32.toUInt32 31)).toInt32 = nI (k >>> j) := by
  have hs : k >>> j ≤ k := by
    rw [Nat.shiftRight_eq_div_pow]
    exact Nat.div_le_self _ _
  have e2 : UInt32.ofNat k >>> (UInt32.ofNat j &&& Int32.toUInt32 31) = UInt32.ofNat (k >>> j) := by
    apply UInt32.toNat_inj.1
    have h1 : (UInt32.ofNat k).toNat = k := Nat.mod_eq_of_lt (by omega)
    have h2 : (UInt32.ofNat (k >>> j)).toNat = k >>> j := Nat.mod_eq_of_lt (by omega)
    rw [UInt32.toNat_shiftRight, nx_cnt ⟨j, hj⟩, h1, h2]
  show (UInt32.ofNat k >>> (UInt32.ofNat j &&& Int32.toUInt32 31)).toInt32 = _
  rw [e2]
  rfl
theorem nx_bit {k j : Nat} (hk : k < 65536) (hj : j < 16) : (((nI k).toUInt32 >>> ((nI j).toUInt32 &&& Int32.toUInt32 31)).toInt32 &&& 1) = 0 ↔ k.testBit j = false := by
  rw [nx_ush hk (by omega)]
  show nI (k >>> j) &&& nI 1 = 0 ↔ _
  rw [nx_and, Nat.and_one_is_mod, ← nI_0, nI_eq (by omega) (by omega), Nat.testBit_eq_decide_div_mod_eq, Nat.shiftRight_eq_div_pow, decide_eq_false_iff_not]
  generalize k / 2 ^ j = z
  omega
theorem nx_mod (k : Nat) : nI k &&& 65535 = nI (k % 65536) := by
  show nI k &&& nI 65535 = _
  rw [nx_and, show (65535 : Nat) = 2 ^ 16 - 1 from rfl, Nat.and_two_pow_sub_one_eq_mod]
theorem nx_m16 {k : Nat} (h : k < 65536) : nI k &&& 65535 = nI k := by rw [nx_mod, Nat.mod_eq_of_lt h]
theorem nx_mask (x : Int32) : ∃ k, k < 65536 ∧ x &&& 65535 = nI k := by
  have e : x = nI x.toBitVec.toNat := by
    apply Int32.toBitVec_inj.1
    show x.toBitVec = BitVec.ofNat 32 x.toBitVec.toNat
    simp
  refine ⟨x.toBitVec.toNat % 65536, Nat.mod_lt _ (by omega), ?_⟩
  rw [← nx_mod, ← e]
/-! ===== Int32 as a set of bits: test, set ===== -/
def nf_M (m : Int32) : Nat := 4294967296 - m.toBitVec.toNat
theorem nf_sh : ∀ l, l < 32 → ((1 : Int32) <<< (nI l &&& 31)).toBitVec = BitVec.twoPow 32 l := by decide +kernel
theorem nf_sl : ∀ l, l < 32 → (((nI l).toUInt32 &&& Int32.toUInt32 31).toBitVec % 32).toNat = l := by decide +kernel
theorem nf_tp : ∀ l, l < 32 → BitVec.twoPow 32 l ≠ 0#32 := by decide +kernel
theorem nf_bit (m : Int32) (l : Nat) (hl : l < 32) : ((m.toUInt32 >>> ((nI l).toUInt32 &&& Int32.toUInt32 31)).toInt32 &&& 1) = 0 ↔ (m &&& ((1 : Int32) <<< (nI l &&& 31))) = 0 := by
  have e : ((m.toUInt32 >>> ((nI l).toUInt32 &&& Int32.toUInt32 31)).toInt32).toBitVec = m.toBitVec >>> l := by
    show m.toBitVec >>> (((nI l).toUInt32 &&& Int32.toUInt32 31).toBitVec % 32) = m.toBitVec >>> l
    rw [BitVec.ushiftRight_eq', nf_sl l hl]
  rw [← Int32.toBitVec_inj, ← Int32.toBitVec_inj, Int32.toBitVec_and, Int32.toBitVec_and, nf_sh l hl, e, BitVec.and_twoPow]
  show (m.toBitVec >>> l &&& 1#32) = 0#32 ↔ _ = 0#32
  rw [BitVec.and_one_eq_setWidth_ofBool_getLsbD, BitVec.getLsbD_ushiftRight, Nat.add_zero]
  cases hb : m.toBitVec.getLsbD l
  · exact ⟨fun _ => by simp, fun _ => by decide⟩
  · exact ⟨fun z => absurd z (by decide), fun z => absurd ((if_pos rfl).symm.trans z) (nf_tp l hl)⟩
theorem nf_gr (m k : Int32) (h : m &&& k = 0) (hk : k ≠ 0) : nf_M (m ||| k) < nf_M m := by
  have hm := m.toBitVec.isLt
  have hm' := (m ||| k).toBitVec.isLt
  have h1 : m.toBitVec.toNat ≤ (m ||| k).toBitVec.toNat := by
    rw [Int32.toBitVec_or, BitVec.toNat_or]
    exact Nat.left_le_or
  have h2 : m.toBitVec.toNat ≠ (m ||| k).toBitVec.toNat := by
    intro e
    have e2 : m = m ||| k := Int32.toBitVec_inj.mp (BitVec.eq_of_toNat_eq e)
    apply hk
    apply Int32.toBitVec_inj.mp
    show k.toBitVec = 0#32
    apply BitVec.eq_of_getLsbD_eq
    intro i hi
    have a : m.toBitVec.getLsbD i = (m.toBitVec.getLsbD i || k.toBitVec.getLsbD i) := by rw [← BitVec.getLsbD_or, ← Int32.toBitVec_or, ← e2]
    have b : (m.toBitVec.getLsbD i && k.toBitVec.getLsbD i) = false := by
      rw [← BitVec.getLsbD_and, ← Int32.toBitVec_and, h]
      exact BitVec.getLsbD_zero
    rw [BitVec.getLsbD_zero]
    revert a b
    cases m.toBitVec.getLsbD i <;> cases k.toBitVec.getLsbD i <;> simp
  unfold nf_M
  omega
/-! ===== a byte read unsigned ===== -/
theorem bp_b (x : Int32) : x.toInt8.toInt32 &&& 255 = x &&& 255 := by
  apply Int32.toBitVec_inj.mp
  rw [Int32.toBitVec_and, Int32.toBitVec_and, Int8.toBitVec_toInt32, Int32.toBitVec_toInt8]
  apply BitVec.eq_of_getLsbD_eq
  intro i hi
  rw [BitVec.getLsbD_and, BitVec.getLsbD_and]
  have hm : ∀ i < 32, 8 ≤ i → (255 : Int32).toBitVec.getLsbD i = false := by decide
  rcases Nat.lt_or_ge i 8 with z | z
  · rw [BitVec.getLsbD_signExtend, BitVec.getLsbD_signExtend, if_pos z, if_pos hi]
    simp only [z, hi, decide_true, Bool.true_and]
  · rw [hm i hi z]; simp
/-! ===== the char cast and 65535 ===== -/
theorem em_w (v : Int32) : ∃ w : Nat, w < 65536 ∧ (v.toUInt32 % 65536).toInt32 = nI w ∧ v &&& 65535 = nI w := by
  have hr := lw_u16_r v
  have h0 : (0 : Int32).toInt = 0 := by decide
  obtain ⟨w, h1, h2⟩ := nI_of (x := lw_u16 v) (by rw [Int32.lt_iff_toInt_lt]; omega)
  have h3 : (v.toUInt32 % 65536).toInt32 = nI w := h2
  rw [h2, nI_toInt h1] at hr
  exact ⟨w, by omega, h3, by rw [← lg_i2c_mask, ← lg_i2c_nf, h3]⟩
/-! ===== Int64 as a set of bits: test, set, clear ===== -/
theorem ts_nf {x : Bool} (h : ¬ x = false) : x = true := by cases x <;> first | rfl | exact absurd rfl h
theorem ts_nt {x : Bool} (h : ¬ x = true) : x = false := by cases x <;> first | rfl | exact absurd rfl h
theorem ts_bit {w : Int64} {s : UInt64} {j : Nat} (hj : j < 64) (hs : s.toNat = j) : ((w.toUInt64 >>> s).toInt64 &&& 1) = 0 ↔ w.toBitVec.getLsbD j = false := by
  have e : (w.toUInt64 >>> s).toInt64.toBitVec = w.toBitVec >>> j := by
    apply BitVec.eq_of_toNat_eq
    show (w.toUInt64 >>> s).toNat = _
    rw [UInt64.toNat_shiftRight, hs, Nat.mod_eq_of_lt hj, BitVec.toNat_ushiftRight]
    rfl
  rw [← Int64.toBitVec_inj, Int64.toBitVec_and, e]
  show w.toBitVec >>> j &&& 1#64 = 0#64 ↔ _
  constructor
  · intro h
    have t := congrArg (fun x => x.getLsbD 0) h
    simpa using t
  · intro h
    apply BitVec.eq_of_getLsbD_eq
    intro i hi
    cases i with
    | zero => simp [h]
    | succ i => simp
theorem ts_or {w m : Int64} {j : Nat} (hj : j < 64) (hm : m.toBitVec = BitVec.twoPow 64 j) : (w ||| m) = w ↔ w.toBitVec.getLsbD j = true := by
  rw [← Int64.toBitVec_inj, Int64.toBitVec_or, hm]
  constructor
  · intro h
    have t := congrArg (fun x => x.getLsbD j) h
    simp only [BitVec.getLsbD_or, BitVec.getLsbD_twoPow] at t
    simpa [hj] using t.symm
  · intro h
    apply BitVec.eq_of_getLsbD_eq
    intro i hi
    rw [BitVec.getLsbD_or, BitVec.getLsbD_twoPow]
    by_cases e : j = i
    · subst e; rw [h, Bool.true_or]
    · simp [e]
theorem ts_and {w m : Int64} {j : Nat} (hj : j < 64) (hm : m.toBitVec = BitVec.twoPow 64 j) : (w &&& (m ^^^ (-1))) = w ↔ w.toBitVec.getLsbD j = false := by
  have ha : (-1 : Int64).toBitVec = BitVec.allOnes 64 := by decide
  rw [← Int64.toBitVec_inj, Int64.toBitVec_and, Int64.toBitVec_xor, hm, ha]
  constructor
  · intro h
    have t := congrArg (fun x => x.getLsbD j) h
    simp only [BitVec.getLsbD_and, BitVec.getLsbD_xor, BitVec.getLsbD_twoPow, BitVec.getLsbD_allOnes] at t
    simpa [hj] using t.symm
  · intro h
    apply BitVec.eq_of_getLsbD_eq
    intro i hi
    rw [BitVec.getLsbD_and, BitVec.getLsbD_xor, BitVec.getLsbD_twoPow, BitVec.getLsbD_allOnes]
    by_cases e : j = i
    · subst e; rw [h, Bool.false_and]
    · simp [e, hi]
/-! ===== lN n to 2^64: shifts, and, or, masks, one bit ===== -/
theorem wb_tb (n : Nat) : (lN n).toBitVec = BitVec.ofNat 64 n := rfl
theorem wb_inj {a b : Int64} (h : a.toBitVec = b.toBitVec) : a = b := Int64.toBitVec_inj.mp h
theorem wb_tn {n : Nat} (h : n < 2 ^ 64) : (lN n).toBitVec.toNat = n := by rw [wb_tb, BitVec.toNat_ofNat, Nat.mod_eq_of_lt h]
theorem wb_of (x : Int64) : ∃ n, n < 2 ^ 64 ∧ x = lN n := ⟨x.toBitVec.toNat, x.toBitVec.isLt, wb_inj (by rw [wb_tb]; simp)⟩
theorem wb_of32 (x : Int32) : ∃ n, n < 2 ^ 32 ∧ x = nI n := ⟨x.toBitVec.toNat, x.toBitVec.isLt, Int32.toBitVec_inj.mp (by show _ = BitVec.ofNat 32 _; simp)⟩
theorem wb_c : ∀ k, k < 64 → ((nI k).toInt64 &&& 63) = lN k := by decide +kernel
theorem wb_cu : ∀ k, k < 64 → ((nI k).toInt64.toUInt64 &&& Int64.toUInt64 63) = UInt64.ofNat k := by decide +kernel
theorem wb_sm : ∀ k, k < 64 → (BitVec.ofNat 64 k).smod 64 = BitVec.ofNat 64 k := by decide +kernel
theorem wb_pw {a b : Nat} (h : a ≤ b) : 2 ^ b = 2 ^ a * 2 ^ (b - a) := by rw [← Nat.pow_add]; congr 1; omega
theorem wb_lt2 {a b : Nat} (h : a < b) : 2 ^ a < 2 ^ b := Nat.pow_lt_pow_right (by decide) h
theorem wb_mod (n : Nat) : lN n = lN (n % 2 ^ 64) := wb_inj (by rw [wb_tb, wb_tb]; apply BitVec.eq_of_toNat_eq; rw [BitVec.toNat_ofNat, BitVec.toNat_ofNat, Nat.mod_mod])
theorem wb_shr {n k : Nat} (hn : n < 2 ^ 64) (hk : k < 64) : ((lN n).toUInt64 >>> ((nI k).toInt64.toUInt64 &&& Int64.toUInt64 63)).toInt64 = lN (n / 2 ^ k) := by
  rw [wb_cu k hk]
  apply wb_inj
  apply BitVec.eq_of_toNat_eq
  show ((lN n).toUInt64 >>> UInt64.ofNat k).toNat = (BitVec.ofNat 64 _).toNat
  have h1 : (UInt64.ofNat k).toNat = k := by
    show (BitVec.ofNat 64 k).toNat = k
    rw [BitVec.toNat_ofNat, Nat.mod_eq_of_lt (by omega)]
  have h2 : (lN n).toUInt64.toNat = n := wb_tn hn
  rw [UInt64.toNat_shiftRight, h1, h2, Nat.mod_eq_of_lt hk, Nat.shiftRight_eq_div_pow, BitVec.toNat_ofNat, Nat.mod_eq_of_lt (Nat.lt_of_le_of_lt (Nat.div_le_self _ _) hn)]
theorem wb_shl (n : Nat) {k : Nat} (hk : k < 64) : lN n <<< ((nI k).toInt64 &&& 63) = lN (n * 2 ^ k) := by
  rw [wb_c k hk]
  apply wb_inj
  rw [Int64.toBitVec_shiftLeft, wb_tb, wb_tb, wb_tb, wb_sm k hk]
  apply BitVec.eq_of_toNat_eq
  rw [BitVec.shiftLeft_eq', BitVec.toNat_shiftLeft, BitVec.toNat_ofNat, BitVec.toNat_ofNat, BitVec.toNat_ofNat, Nat.mod_eq_of_lt (show k < 2 ^ 64 by omega), Nat.shiftLeft_eq, Nat.mul_mod, Nat.mod_mod, ← Nat.mul_mod]
theorem wb_and {a b : Nat} (ha : a < 2 ^ 64) (hb : b < 2 ^ 64) : lN a &&& lN b = lN (a &&& b) := by
  apply wb_inj
  rw [Int64.toBitVec_and, wb_tb, wb_tb, wb_tb]
  apply BitVec.eq_of_toNat_eq
  rw [BitVec.toNat_and, BitVec.toNat_ofNat, BitVec.toNat_ofNat, BitVec.toNat_ofNat, Nat.mod_eq_of_lt ha, Nat.mod_eq_of_lt hb, Nat.mod_eq_of_lt (Nat.and_lt_two_pow _ hb)]
theorem wb_or {a b : Nat} (ha : a < 2 ^ 64) (hb : b < 2 ^ 64) : lN a ||| lN b = lN (a ||| b) := by
  apply wb_inj
  rw [Int64.toBitVec_or, wb_tb, wb_tb, wb_tb]
  apply BitVec.eq_of_toNat_eq
  rw [BitVec.toNat_or, BitVec.toNat_ofNat, BitVec.toNat_ofNat, BitVec.toNat_ofNat, Nat.mod_eq_of_lt ha, Nat.mod_eq_of_lt hb, Nat.mod_eq_of_lt (Nat.or_lt_two_pow ha hb)]
theorem wb_mask {n k : Nat} (hn : n < 2 ^ 64) (hk : k < 64) : lN n &&& lN (2 ^ k - 1) = lN (n % 2 ^ k) := by
  rw [wb_and hn (by have := wb_lt2 hk; omega), Nat.and_two_pow_sub_one_eq_mod]
theorem wb_a1 {n : Nat} (hn : n < 2 ^ 64) : lN n &&& 1 = lN (n % 2) := wb_mask (k := 1) hn (by decide)
theorem wb_bit {n k : Nat} (hn : n < 2 ^ 64) (hk : k < 64) : ((lN n).toUInt64 >>> ((nI k).toInt64.toUInt64 &&& Int64.toUInt64 63)).toInt64 &&& 1 = lN (n / 2 ^ k % 2) := by
  rw [wb_shr hn hk, wb_a1 (Nat.lt_of_le_of_lt (Nat.div_le_self _ _) hn)]
theorem wb_xor {q k : Nat} (hk : k < 63) (h : 2 ^ k ≤ q) (h2 : q < 2 ^ (k + 1)) : lN q ^^^ lN (2 ^ k) = lN (q - 2 ^ k) := by
  obtain ⟨r, rfl⟩ : ∃ r, q = 2 ^ k + r := ⟨q - 2 ^ k, by omega⟩
  have hr : r < 2 ^ k := by rw [Nat.pow_succ] at h2; omega
  have hx : (2 ^ k + r) ^^^ 2 ^ k = r := by
    apply Nat.eq_of_testBit_eq
    intro i
    rw [Nat.testBit_xor, Nat.testBit_two_pow]
    rcases Nat.lt_trichotomy i k with h | h | h
    · rw [Nat.testBit_two_pow_add_gt h]
      simp [show ¬ k = i by omega]
    · subst h
      rw [Nat.testBit_two_pow_add_eq]
      simp
    · have a1 : 2 ^ (k + 1) ≤ 2 ^ i := Nat.pow_le_pow_right (by decide) h
      rw [Nat.testBit_lt_two_pow (show 2 ^ k + r < 2 ^ i by omega), Nat.testBit_lt_two_pow (show r < 2 ^ i by omega)]
      simp [show ¬ k = i by omega]
  have b1 := wb_lt2 (show k + 1 < 64 by omega)
  have b2 := wb_lt2 (show k < 64 by omega)
  apply wb_inj
  rw [Int64.toBitVec_xor, wb_tb, wb_tb, wb_tb]
  apply BitVec.eq_of_toNat_eq
  rw [BitVec.toNat_xor, BitVec.toNat_ofNat, BitVec.toNat_ofNat, BitVec.toNat_ofNat, Nat.mod_eq_of_lt (by omega : 2 ^ k + r < 2 ^ 64), Nat.mod_eq_of_lt b2, hx, Nat.add_sub_cancel_left, Nat.mod_eq_of_lt (by omega)]
/-! ===== lN: masks, 'or' of parts that don't overlap is a sum ===== -/
theorem u_tn {n : Nat} (h : n < 2 ^ 64) : (UInt64.ofNat n).toNat = n := Nat.mod_eq_of_lt h
theorem g_and {a b c : Nat} (ha : a < 2 ^ 64) (hb : b < 2 ^ 64) (hc : a &&& b = c) : lN a &&& lN b = lN c := by
  subst hc
  have h : UInt64.ofNat a &&& UInt64.ofNat b = UInt64.ofNat (a &&& b) := UInt64.toNat_inj.mp (by rw [UInt64.toNat_and, u_tn ha, u_tn hb, u_tn (Nat.and_lt_two_pow a hb)])
  have h2 := congrArg UInt64.toInt64 h
  exact h2
theorem g_and1 {a : Nat} (ha : a < 2 ^ 64) : lN a &&& 1 = lN (a % 2) := g_and (b := 1) ha (by decide) (Nat.and_two_pow_sub_one_eq_mod a 1)
theorem g_mask {a s p : Nat} (hp : 2 ^ s = p) (hs : s < 64) (ha : a < 2 ^ 64) : lN a &&& lN (p - 1) = lN (a % p) := by
  subst hp
  have := Nat.pow_lt_pow_right (show 1 < 2 by decide) hs
  exact g_and ha (by omega) (Nat.and_two_pow_sub_one_eq_mod a s)
theorem g_or {k p a b : Nat} (hp : 2 ^ k = p) (ha : a < p) (h : b * p + a < 2 ^ 64) : lN (b * p) ||| lN a = lN (b * p + a) := by
  subst hp
  have h1 : b * 2 ^ k ||| a = b * 2 ^ k + a := by rw [← Nat.shiftLeft_eq, Nat.shiftLeft_add_eq_or_of_lt ha]
  have h3 : UInt64.ofNat (b * 2 ^ k) ||| UInt64.ofNat a = UInt64.ofNat (b * 2 ^ k + a) := UInt64.toNat_inj.mp (by rw [UInt64.toNat_or, u_tn (by omega), u_tn (by omega), u_tn h, h1])
  have h2 := congrArg UInt64.toInt64 h3
  exact h2
theorem g_or' {k p a b : Nat} (hp : 2 ^ k = p) (ha : a < p) (h : a + b * p < 2 ^ 64) : lN a ||| lN (b * p) = lN (a + b * p) := by
  rw [Int64.or_comm, g_or hp ha (by omega), Nat.add_comm]
theorem g_ushr {a k p : Nat} {y : UInt64} (hy : y = UInt64.ofNat k) (hk : k < 64) (hp : 2 ^ k = p) (ha : a < 2 ^ 64) : ((lN a).toUInt64 >>> y).toInt64 = lN (a / p) := by
  subst hy hp
  have h : UInt64.ofNat a >>> UInt64.ofNat k = UInt64.ofNat (a / 2 ^ k) := UInt64.toNat_inj.mp (by rw [UInt64.toNat_shiftRight, u_tn ha, u_tn (by omega), u_tn (Nat.lt_of_le_of_lt (Nat.div_le_self _ _) ha), Nat.mod_eq_of_lt hk, Nat.shiftRight_eq_div_pow])
  have h2 := congrArg UInt64.toInt64 h
  exact h2
theorem g_shl {a k p : Nat} {y : Int64} (hy : y.toBitVec.smod 64 = BitVec.ofNat 64 k) (hk : k < 64) (hp : 2 ^ k = p) (ha : a < 2 ^ 64) : lN a <<< y = lN (a * p) := by
  subst hp
  apply Int64.toBitVec_inj.mp
  rw [Int64.toBitVec_shiftLeft, hy]
  apply BitVec.eq_of_toNat_eq
  have hb : (lN a).toBitVec.toNat = a := Nat.mod_eq_of_lt ha
  have hk' : (BitVec.ofNat 64 k).toNat = k := Nat.mod_eq_of_lt (by omega)
  have h : ((lN a).toBitVec <<< BitVec.ofNat 64 k).toNat = (a * 2 ^ k) % 2 ^ 64 := by simp only [BitVec.shiftLeft_eq', BitVec.toNat_shiftLeft, hb, hk', Nat.shiftLeft_eq]
  exact h
/-! ===== lN to 2^62 under >> and >>> ===== -/
theorem pf_lI {a : Nat} (h : a < 2 ^ 63) : (lN a).toInt = (a : Int) := lg_ofNat_toInt h
theorem pf_shr {a d : Nat} {D : Int64} (hD : (D.toBitVec.smod 64).toNat = d) (h : a < 2 ^ 62) : lN a >>> D = lN (a / 2 ^ d) := by
  have hd : a / 2 ^ d ≤ a := Nat.div_le_self _ _
  apply Int64.toInt_inj.mp
  have e : (lN a >>> D).toInt = (lN a).toInt >>> d := by
    rw [← hD]
    exact BitVec.toInt_sshiftRight ..
  rw [e, Int.shiftRight_eq_div_pow, pf_lI (by omega), pf_lI (by omega)]
  rfl
theorem pf_ushr {a d : Nat} {D : UInt64} (hD : D.toNat % 64 = d) (h : a < 2 ^ 62) : ((lN a).toUInt64 >>> D).toInt64 = lN (a / 2 ^ d) := by
  have hd : a / 2 ^ d ≤ a := Nat.div_le_self _ _
  have e : (lN a).toUInt64 >>> D = UInt64.ofNat (a / 2 ^ d) := UInt64.toNat_inj.mp (by
    rw [UInt64.toNat_shiftRight, hD, Nat.shiftRight_eq_div_pow, UInt64.toNat_ofNat']
    show (UInt64.ofNat a).toNat / 2 ^ d = _
    rw [UInt64.toNat_ofNat', Nat.mod_eq_of_lt (by omega), Nat.mod_eq_of_lt (by omega)])
  rw [e]
  rfl
theorem pf_andw (x : Int64) : ∃ m, m < 2 ^ 32 ∧ x &&& 4294967295 = lN m := ⟨x.toBitVec.toNat % 2 ^ 32, Nat.mod_lt _ (by decide), Int64.toBitVec_inj.mp (BitVec.eq_of_toNat_eq (by
  show (x.toBitVec &&& 4294967295#64).toNat = (BitVec.ofNat 64 (x.toBitVec.toNat % 2 ^ 32)).toNat
  rw [BitVec.toNat_and, show (4294967295#64).toNat = 2 ^ 32 - 1 from by decide, Nat.and_two_pow_sub_one_eq_mod, BitVec.toNat_ofNat]
  omega))⟩
/-! ===== Int64 as an unsigned number: uN x ===== -/
def uN (x : Int64) : Nat := x.toUInt64.toNat
theorem uN_lt (x : Int64) : uN x < 18446744073709551616 := x.toUInt64.toNat_lt
theorem uN_inj {x y : Int64} (h : uN x = uN y) : x = y := congrArg UInt64.toInt64 (UInt64.toNat_inj.mp h)
theorem uN_add (x y : Int64) : uN (x + y) = (uN x + uN y) % 18446744073709551616 := by
  show (x.toUInt64 + y.toUInt64).toNat = _
  exact UInt64.toNat_add _ _
theorem uN_mul (x y : Int64) : uN (x * y) = (uN x * uN y) % 18446744073709551616 := by
  show (x.toUInt64 * y.toUInt64).toNat = _
  exact UInt64.toNat_mul _ _
theorem uN_shl (x : Int64) : uN (x <<< ((1 : Int32).toInt64 &&& 63)) = (2 * uN x) % 18446744073709551616 := by
  have h : (((1 : Int32).toInt64 &&& 63).toBitVec.smod 64).toNat = 1 := by decide
  show (x.toBitVec <<< (((1 : Int32).toInt64 &&& 63).toBitVec.smod 64).toNat).toNat = _
  rw [h, BitVec.toNat_shiftLeft, Nat.shiftLeft_eq, Nat.mul_comm]
  rfl
theorem uN_shr (x : Int64) (s : UInt64) : uN (x.toUInt64 >>> s).toInt64 = uN x / 2 ^ (s.toNat % 64) := by
  show (x.toUInt64 >>> s).toNat = _
  rw [UInt64.toNat_shiftRight, Nat.shiftRight_eq_div_pow]
  rfl
theorem uN_s32 (x : Int64) : uN (x.toUInt64 >>> ((32 : Int32).toInt64.toUInt64 &&& Int64.toUInt64 63)).toInt64 = uN x / 4294967296 := by
  have h : ((32 : Int32).toInt64.toUInt64 &&& Int64.toUInt64 63).toNat % 64 = 32 := by decide
  rw [uN_shr, h]
theorem uN_s63 (x : Int64) : uN (x.toUInt64 >>> ((63 : Int32).toInt64.toUInt64 &&& Int64.toUInt64 63)).toInt64 = uN x / 9223372036854775808 := by
  have h : ((63 : Int32).toInt64.toUInt64 &&& Int64.toUInt64 63).toNat % 64 = 63 := by decide
  rw [uN_shr, h]
theorem uN_lo (x : Int64) : uN (x &&& 4294967295) = uN x % 4294967296 := by
  show (x.toUInt64 &&& Int64.toUInt64 4294967295).toNat = _
  rw [UInt64.toNat_and]
  exact Nat.and_two_pow_sub_one_eq_mod _ 32
theorem uN_bit (x : Int64) : (x &&& 1) = 0 ↔ uN x % 2 = 0 := by
  have h : uN (x &&& 1) = uN x % 2 := by
    show (x.toUInt64 &&& Int64.toUInt64 1).toNat = _
    rw [UInt64.toNat_and]
    exact Nat.and_two_pow_sub_one_eq_mod _ 1
  rw [← h]
  exact ⟨fun z => by rw [z]; rfl, fun z => uN_inj (z.trans rfl)⟩
theorem uN_or {x y : Int64} (hy : uN y < 2) : uN ((x <<< ((1 : Int32).toInt64 &&& 63)) ||| y) = (2 * uN x) % 18446744073709551616 + uN y := by
  have h1 : uN ((x <<< ((1 : Int32).toInt64 &&& 63)) ||| y) = uN (x <<< ((1 : Int32).toInt64 &&& 63)) ||| uN y := UInt64.toNat_or _ _
  have h2 : (2 * uN x) % 18446744073709551616 = 2 ^ 1 * (uN x % 9223372036854775808) := by omega
  rw [h1, uN_shl, h2]
  exact (Nat.two_pow_add_eq_or_of_lt (i := 1) hy _).symm
theorem nat_xor {a : Nat} (h : a < 18446744073709551616) : a ^^^ 2 ^ 63 = (a + 9223372036854775808) % 18446744073709551616 := by
  have h1 : (a ^^^ 2 ^ 63) % 2 ^ 63 = a % 2 ^ 63 := by rw [Nat.xor_mod_two_pow, Nat.mod_self, Nat.xor_zero]
  have h2 : (a ^^^ 2 ^ 63) / 2 ^ 63 = (a / 2 ^ 63) ^^^ 1 := by rw [Nat.xor_div_two_pow, Nat.div_self (Nat.two_pow_pos 63)]
  have h3 : a / 2 ^ 63 = 0 ∨ a / 2 ^ 63 = 1 := by omega
  generalize a ^^^ 2 ^ 63 = t at h1 h2
  rcases h3 with h3 | h3
  · rw [h3] at h2
    have h2 : t / 2 ^ 63 = 1 := h2
    omega
  · rw [h3] at h2
    have h2 : t / 2 ^ 63 = 0 := h2
    omega
theorem uN_xor (x : Int64) : uN (x ^^^ (-9223372036854775808)) = (uN x + 9223372036854775808) % 18446744073709551616 := by
  rw [← nat_xor (uN_lt x)]
  exact UInt64.toNat_xor _ _
theorem uN_int (x : Int64) : x.toInt = if 2 * uN x < 18446744073709551616 then (uN x : Int) else (uN x : Int) - 18446744073709551616 := BitVec.toInt_eq_toNat_cond _
theorem uN_le (x y : Int64) : (x ^^^ (-9223372036854775808)) ≤ (y ^^^ (-9223372036854775808)) ↔ uN x ≤ uN y := by
  have hx := uN_lt x
  have hy := uN_lt y
  rw [Int64.le_iff_toInt_le, uN_int, uN_int, uN_xor, uN_xor]
  omega
theorem uN_sk (x : Int64) {k : Nat} (hk : k < 64) : uN (x.toUInt64 >>> ((nI k).toInt64.toUInt64 &&& Int64.toUInt64 63)).toInt64 = uN x / 2 ^ k := by
  have h : ((nI k).toInt64.toUInt64 &&& Int64.toUInt64 63).toNat % 64 = k := by
    rw [nI_l (by omega), UInt64.toNat_and]
    have e : (lN k).toUInt64.toNat = k % 2 ^ 64 := rfl
    have e2 : (Int64.toUInt64 63).toNat = 2 ^ 6 - 1 := by decide
    rw [e, e2, Nat.and_two_pow_sub_one_eq_mod]
    omega
  rw [uN_shr, h]
/-! ===== unsigned comparison by xor with the least ===== -/
theorem lN_bv (n : Nat) : (lN n).toBitVec = BitVec.ofNat 64 n := rfl
theorem lN_nat {n : Nat} (h : n < 2 ^ 64) : (lN n).toBitVec.toNat = n := by rw [lN_bv, BitVec.toNat_ofNat]; exact Nat.mod_eq_of_lt h
theorem lN_xor (a b : Nat) : lN a ^^^ lN b = lN (a ^^^ b) := by
  apply Int64.toBitVec_inj.mp; rw [Int64.toBitVec_xor, lN_bv, lN_bv, lN_bv]; apply BitVec.eq_of_getLsbD_eq; intro i hi; simp [BitVec.getLsbD_ofNat, Nat.testBit_xor, hi]
theorem lN_ti {m : Nat} (h : m < 2 ^ 64) : (lN m).toInt = if m < 2 ^ 63 then (m : Int) else (m : Int) - 2 ^ 64 := by
  have c := BitVec.toInt_eq_toNat_cond (lN m).toBitVec
  rw [lN_nat h] at c
  show (lN m).toBitVec.toInt = _
  rw [c]
  split <;> split <;> omega
theorem xor63 {x : Nat} (h : x < 2 ^ 63) : x ^^^ 2 ^ 63 = 2 ^ 63 + x := by
  apply Nat.eq_of_testBit_eq
  intro i
  rw [Nat.testBit_xor, Nat.testBit_two_pow]
  rcases Nat.lt_trichotomy i 63 with z | z | z
  · rw [Nat.testBit_two_pow_add_gt z, decide_eq_false (by omega)]; simp
  · subst z; rw [Nat.testBit_two_pow_add_eq]; simp
  · have hp : 2 ^ 64 ≤ 2 ^ i := Nat.pow_le_pow_right (by decide) z
    rw [Nat.testBit_lt_two_pow (show x < 2 ^ i by omega), Nat.testBit_lt_two_pow (show 2 ^ 63 + x < 2 ^ i by omega), decide_eq_false (by omega)]; rfl
theorem xorS {a : Nat} (h : a < 2 ^ 64) : (lN a ^^^ (-9223372036854775808)).toInt = (a : Int) - 2 ^ 63 := by
  rw [show (-9223372036854775808 : Int64) = lN (2 ^ 63) from by decide +kernel, lN_xor]
  rcases Nat.lt_or_ge a (2 ^ 63) with z | z
  · rw [xor63 z, lN_ti (by omega), if_neg (by omega)]; omega
  · obtain ⟨x, rfl⟩ : ∃ x, a = 2 ^ 63 + x := ⟨a - 2 ^ 63, by omega⟩
    rw [← xor63 (by omega), Nat.xor_assoc, Nat.xor_self, Nat.xor_zero, lN_ti (by omega), if_pos (by omega), xor63 (by omega)]; omega
theorem ultL {a b : Nat} (ha : a < 2 ^ 64) (hb : b < 2 ^ 64) : ((lN b ^^^ (-9223372036854775808)) ≤ (lN a ^^^ (-9223372036854775808))) ↔ b ≤ a := by
  rw [Int64.le_iff_toInt_le, xorS ha, xorS hb]; omega
/-! ===== Int64 masks of n low bits ===== -/
theorem cr_bits (W U M : BitVec 64) : ((W &&& U) &&& (U &&& (M ^^^ BitVec.allOnes 64))) = 0#64 ↔ (W &&& U) &&& M = W &&& U := by
  constructor
  · intro h
    apply BitVec.eq_of_getLsbD_eq
    intro i hi
    have e := congrArg (fun x => BitVec.getLsbD x i) h
    simp only [BitVec.getLsbD_and, BitVec.getLsbD_xor, BitVec.getLsbD_allOnes, BitVec.getLsbD_zero, hi, decide_true] at e ⊢
    revert e
    cases W.getLsbD i <;> cases U.getLsbD i <;> cases M.getLsbD i <;> decide
  · intro h
    apply BitVec.eq_of_getLsbD_eq
    intro i hi
    have e := congrArg (fun x => BitVec.getLsbD x i) h
    simp only [BitVec.getLsbD_and, BitVec.getLsbD_xor, BitVec.getLsbD_allOnes, BitVec.getLsbD_zero, hi, decide_true] at e ⊢
    revert e
    cases W.getLsbD i <;> cases U.getLsbD i <;> cases M.getLsbD i <;> decide
theorem cr_mask (w U m : Int64) (n : Nat) (hm : m.toBitVec.toNat = 2 ^ n - 1) : ((w &&& U) &&& (U &&& (m ^^^ (-1)))) = 0 ↔ (w &&& U).toBitVec.toNat < 2 ^ n := by
  have e0 : (-1 : Int64).toBitVec = BitVec.allOnes 64 := by decide
  have z0 : (0 : Int64).toBitVec = 0#64 := by decide
  rw [← Int64.toBitVec_inj, z0, Int64.toBitVec_and, Int64.toBitVec_and, Int64.toBitVec_and, Int64.toBitVec_xor, e0, cr_bits]
  generalize w.toBitVec &&& U.toBitVec = T
  rw [← BitVec.toNat_inj, BitVec.toNat_and, hm, Nat.and_two_pow_sub_one_eq_mod]
  constructor
  · intro h
    have t := Nat.mod_lt T.toNat (Nat.two_pow_pos n)
    rw [h] at t
    exact t
  · exact Nat.mod_eq_of_lt
theorem cr_shr (t : Int64) (x : UInt64) (n : Nat) (hx : x.toNat % 64 = n) : (t.toUInt64 >>> x).toInt64 = 0 ↔ t.toBitVec.toNat < 2 ^ n := by
  rw [← Int64.toBitVec_inj, ← BitVec.toNat_inj]
  show (t.toUInt64 >>> x).toNat = 0 ↔ t.toUInt64.toNat < 2 ^ n
  rw [UInt64.toNat_shiftRight, hx, Nat.shiftRight_eq_div_pow]
  constructor
  · intro h
    have d : t.toUInt64.toNat / 2 ^ n < 1 := by
      rw [h]
      decide
    have e := (Nat.div_lt_iff_lt_mul (Nat.two_pow_pos n)).mp d
    rw [Nat.one_mul] at e
    exact e
  · exact Nat.div_eq_of_lt
theorem cr_amt (s : Int64) : ∃ n, n < 64 ∧ s &&& 63 = lN n ∧ (s.toUInt64 &&& Int64.toUInt64 63).toNat % 64 = n := by
  have e : (s.toUInt64 &&& Int64.toUInt64 63).toNat = s.toUInt64.toNat % 2 ^ 6 := by
    rw [UInt64.toNat_and, show (Int64.toUInt64 63).toNat = 2 ^ 6 - 1 from by decide, Nat.and_two_pow_sub_one_eq_mod]
  refine ⟨s.toUInt64.toNat % 2 ^ 6, by omega, ?_, by omega⟩
  rw [← Int64.toBitVec_inj, ← BitVec.toNat_inj]
  show (s.toUInt64 &&& Int64.toUInt64 63).toNat = (BitVec.ofNat 64 (s.toUInt64.toNat % 2 ^ 6)).toNat
  rw [e, BitVec.toNat_ofNat]
  omega
end
section
/-! lanes: numbers in base 256 -/
def pw_l (f : Nat → Nat) : Nat → Nat
  | 0 => 0
  | n + 1 => f 0 + 256 * pw_l (fun i => f (i + 1)) n
theorem pw_congr : ∀ (n : Nat) {f g : Nat → Nat}, (∀ i, i < n → f i = g i) → pw_l f n = pw_l g n
  | 0, _, _, _ => rfl
  | n + 1, f, g, h => by
    have a : pw_l (fun i => f (i + 1)) n = pw_l (fun i => g (i + 1)) n := pw_congr n (fun i hi => h (i + 1) (by omega))
    simp only [pw_l]
    rw [h 0 (by omega), a]
theorem pw_lt : ∀ (n : Nat) {f : Nat → Nat}, (∀ i, i < n → f i < 256) → pw_l f n < 256 ^ n
  | 0, _, _ => by simp [pw_l]
  | n + 1, f, h => by
    have a := pw_lt n (f := fun i => f (i + 1)) (fun i hi => h (i + 1) (by omega))
    have b := h 0 (by omega)
    simp only [pw_l]
    rw [Nat.pow_succ]
    omega
theorem pw_zero : ∀ (n : Nat), pw_l (fun _ => 0) n = 0
  | 0 => rfl
  | n + 1 => by simp only [pw_l]; rw [pw_zero n]
theorem pw_add : ∀ (n : Nat) (f g : Nat → Nat), pw_l f n + pw_l g n = pw_l (fun i => f i + g i) n
  | 0, _, _ => rfl
  | n + 1, f, g => by
    have a : pw_l (fun i => f (i + 1)) n + pw_l (fun i => g (i + 1)) n = pw_l (fun i => f (i + 1) + g (i + 1)) n := pw_add n _ _
    simp only [pw_l]
    omega
theorem pw_mul (c : Nat) : ∀ (n : Nat) (f : Nat → Nat), c * pw_l f n = pw_l (fun i => c * f i) n
  | 0, _ => rfl
  | n + 1, f => by
    have a : c * pw_l (fun i => f (i + 1)) n = pw_l (fun i => c * f (i + 1)) n := pw_mul c n _
    simp only [pw_l]
    rw [← a, Nat.mul_add, Nat.mul_left_comm c 256]
theorem pw_sub (n : Nat) {f g : Nat → Nat} (h : ∀ i, i < n → g i ≤ f i) : pw_l g n ≤ pw_l f n ∧ pw_l f n - pw_l g n = pw_l (fun i => f i - g i) n := by
  have a := pw_add n (fun i => f i - g i) g
  have b : pw_l (fun i => f i - g i + g i) n = pw_l f n := pw_congr n (fun i hi => by have := h i hi; show f i - g i + g i = f i; omega)
  omega
theorem pw_b (x y : Nat) (hx : x < 256) (j : Nat) : (x + 256 * y).testBit j = if j < 8 then x.testBit j else y.testBit (j - 8) := by
  rw [Nat.add_comm, show (256 : Nat) = 2 ^ 8 from rfl]
  exact Nat.testBit_two_pow_mul_add y hx j
theorem pw_and1 {x y x' y' : Nat} (hx : x < 256) (hx' : x' < 256) : (x + 256 * y) &&& (x' + 256 * y') = (x &&& x') + 256 * (y &&& y') := by
  apply Nat.eq_of_testBit_eq
  intro j
  rw [Nat.testBit_and, pw_b x y hx, pw_b x' y' hx', pw_b (x &&& x') (y &&& y') (Nat.lt_of_le_of_lt Nat.and_le_left hx)]
  by_cases h : j < 8 <;> simp [h, Nat.testBit_and]
theorem pw_or1 {x y x' y' : Nat} (hx : x < 256) (hx' : x' < 256) : (x + 256 * y) ||| (x' + 256 * y') = (x ||| x') + 256 * (y ||| y') := by
  apply Nat.eq_of_testBit_eq
  intro j
  rw [Nat.testBit_or, pw_b x y hx, pw_b x' y' hx', pw_b (x ||| x') (y ||| y') (Nat.or_lt_two_pow (n := 8) hx hx')]
  by_cases h : j < 8 <;> simp [h, Nat.testBit_or]
theorem pw_xor1 {x y x' y' : Nat} (hx : x < 256) (hx' : x' < 256) : (x + 256 * y) ^^^ (x' + 256 * y') = (x ^^^ x') + 256 * (y ^^^ y') := by
  apply Nat.eq_of_testBit_eq
  intro j
  rw [Nat.testBit_xor, pw_b x y hx, pw_b x' y' hx', pw_b (x ^^^ x') (y ^^^ y') (Nat.xor_lt_two_pow (n := 8) hx hx')]
  by_cases h : j < 8 <;> simp [h, Nat.testBit_xor]
theorem pw_and : ∀ (n : Nat) {f g : Nat → Nat}, (∀ i, i < n → f i < 256) → (∀ i, i < n → g i < 256) → pw_l f n &&& pw_l g n = pw_l (fun i => f i &&& g i) n
  | 0, _, _, _, _ => by simp [pw_l]
  | n + 1, f, g, hf, hg => by
    have a : pw_l (fun i => f (i + 1)) n &&& pw_l (fun i => g (i + 1)) n = pw_l (fun i => f (i + 1) &&& g (i + 1)) n := pw_and n (fun i hi => hf (i + 1) (by omega)) (fun i hi => hg (i + 1) (by omega))
    simp only [pw_l]
    rw [pw_and1 (hf 0 (by omega)) (hg 0 (by omega)), a]
theorem pw_or : ∀ (n : Nat) {f g : Nat → Nat}, (∀ i, i < n → f i < 256) → (∀ i, i < n → g i < 256) → pw_l f n ||| pw_l g n = pw_l (fun i => f i ||| g i) n
  | 0, _, _, _, _ => by simp [pw_l]
  | n + 1, f, g, hf, hg => by
    have a : pw_l (fun i => f (i + 1)) n ||| pw_l (fun i => g (i + 1)) n = pw_l (fun i => f (i + 1) ||| g (i + 1)) n := pw_or n (fun i hi => hf (i + 1) (by omega)) (fun i hi => hg (i + 1) (by omega))
    simp only [pw_l]
    rw [pw_or1 (hf 0 (by omega)) (hg 0 (by omega)), a]
theorem pw_xor : ∀ (n : Nat) {f g : Nat → Nat}, (∀ i, i < n → f i < 256) → (∀ i, i < n → g i < 256) → pw_l f n ^^^ pw_l g n = pw_l (fun i => f i ^^^ g i) n
  | 0, _, _, _, _ => by simp [pw_l]
  | n + 1, f, g, hf, hg => by
    have a : pw_l (fun i => f (i + 1)) n ^^^ pw_l (fun i => g (i + 1)) n = pw_l (fun i => f (i + 1) ^^^ g (i + 1)) n := pw_xor n (fun i hi => hf (i + 1) (by omega)) (fun i hi => hg (i + 1) (by omega))
    simp only [pw_l]
    rw [pw_xor1 (hf 0 (by omega)) (hg 0 (by omega)), a]
theorem pw_dig : ∀ (n : Nat) {f : Nat → Nat}, (∀ i, i < n → f i < 256) → ∀ i, i < n → pw_l f n / 256 ^ i % 256 = f i
  | 0, _, _, i, hi => by omega
  | n + 1, f, h, 0, _ => by
    have b := h 0 (by omega)
    simp only [pw_l, Nat.pow_zero, Nat.div_one]
    omega
  | n + 1, f, h, i + 1, hi => by
    have b := h 0 (by omega)
    have a : pw_l (fun i => f (i + 1)) n / 256 ^ i % 256 = f (i + 1) := pw_dig n (f := fun i => f (i + 1)) (fun i hi => h (i + 1) (by omega)) i (by omega)
    simp only [pw_l]
    rw [Nat.pow_succ, Nat.mul_comm (256 ^ i) 256, ← Nat.div_div_eq_div_mul, show (f 0 + 256 * pw_l (fun i => f (i + 1)) n) / 256 = pw_l (fun i => f (i + 1)) n from by omega]
    exact a
theorem pw_of : ∀ (n x : Nat), x < 256 ^ n → pw_l (fun i => x / 256 ^ i % 256) n = x
  | 0, x, h => by
    rw [Nat.pow_zero] at h
    show 0 = x
    omega
  | n + 1, x, h => by
    have a := pw_of n (x / 256) (by rw [Nat.pow_succ] at h; omega)
    have e : pw_l (fun i => x / 256 ^ (i + 1) % 256) n = pw_l (fun i => x / 256 / 256 ^ i % 256) n := pw_congr n (fun i _ => by
      show x / 256 ^ (i + 1) % 256 = x / 256 / 256 ^ i % 256
      rw [Nat.pow_succ, Nat.mul_comm (256 ^ i) 256, ← Nat.div_div_eq_div_mul])
    simp only [pw_l]
    rw [e, a, Nat.pow_zero, Nat.div_one]
    omega
theorem pw_one : ∀ (N n m : Nat), n < N → pw_l (fun i => if i = n then m else 0) N = m * 256 ^ n
  | 0, n, m, h => by omega
  | N + 1, 0, m, _ => by
    have a : pw_l (fun i => if i + 1 = 0 then m else 0) N = 0 := by
      rw [pw_congr N (g := fun _ => 0) (fun i _ => if_neg (by omega))]
      exact pw_zero N
    simp only [pw_l]
    rw [a]
    simp
  | N + 1, n + 1, m, h => by
    have a : pw_l (fun i => if i + 1 = n + 1 then m else 0) N = m * 256 ^ n := by
      rw [pw_congr N (g := fun i => if i = n then m else 0) (fun i _ => by
        show (if i + 1 = n + 1 then m else 0) = if i = n then m else 0
        by_cases z : i = n
        · rw [if_pos (by omega), if_pos z]
        · rw [if_neg (by omega), if_neg z])]
      exact pw_one N n m (by omega)
    simp only [pw_l]
    rw [a, if_neg (by omega), Nat.pow_succ, Nat.zero_add, Nat.mul_comm 256, Nat.mul_assoc]
/-! the lanes of a long -/
def ln_ (S : Int64) (n : Nat) : Nat := S.toBitVec.toNat / 256 ^ n % 256
theorem ln_lt (S : Int64) (n : Nat) : ln_ S n < 256 := Nat.mod_lt _ (by decide)
theorem ln_b8 {f : Nat → Nat} (h : ∀ i, i < 8 → f i < 256) : pw_l f 8 < 2 ^ 64 := Nat.lt_of_lt_of_eq (pw_lt 8 h) (by decide)
theorem ln_of (S : Int64) : S = lN (pw_l (ln_ S) 8) := by
  obtain ⟨s, hs, rfl⟩ := wb_of S
  have e : ln_ (lN s) = fun i => s / 256 ^ i % 256 := by
    funext i
    unfold ln_
    rw [wb_tn hs]
  rw [e, pw_of 8 s (Nat.lt_of_lt_of_eq hs (by decide))]
theorem ln_pw {f : Nat → Nat} (h : ∀ i, i < 8 → f i < 256) {n : Nat} (hn : n < 8) : ln_ (lN (pw_l f 8)) n = f n := by
  unfold ln_
  rw [wb_tn (ln_b8 h)]
  exact pw_dig 8 h n hn
theorem ln_ext {S S' : Int64} (h : ∀ i, i < 8 → ln_ S i = ln_ S' i) : S = S' := (ln_of S).trans ((congrArg lN (pw_congr 8 h)).trans (ln_of S').symm)
theorem ln_0 (n : Nat) : ln_ 0 n = 0 := by
  unfold ln_
  rw [show (0 : Int64).toBitVec.toNat = 0 from rfl, Nat.zero_div]
def ok_ (S : Int64) : Prop := ∀ i, i < 8 → ln_ S i < 128 ∧ (6 ≤ i → ln_ S i = 0)
def tt_ (i : Nat) : Nat := if i < 6 then 128 else 0
def tb_ (f g : Nat → Nat) (i : Nat) : Nat := if i < 6 ∧ g i ≤ f i then 1 else 0
theorem tt_c : (141289400074368 : Int64) = lN (pw_l tt_ 8) := by decide +kernel
theorem tt_m1 : (-1 : Int64) = lN (pw_l (fun _ => 255) 8) := by decide +kernel
theorem tt_or : ∀ x, x < 128 → x ||| 128 = x + 128 := by decide +kernel
theorem tt_and : ∀ x, x < 256 → x &&& 128 = if 128 ≤ x then 128 else 0 := by decide +kernel
theorem tt_255 : ∀ x, x < 256 → x &&& 255 = x := by decide +kernel
theorem tt_lt (i : Nat) : tt_ i < 256 := by unfold tt_; split <;> omega
theorem tb_01 (f g : Nat → Nat) (i : Nat) : tb_ f g i = 0 ∨ tb_ f g i = 1 := by unfold tb_; split <;> simp
def j5_ (a b : Int64) : Int64 := ((a ||| 141289400074368) - b) &&& 141289400074368
def j7_ (x : Int64) : Int64 := (x <<< ((1 : Int32).toInt64 &&& 63)) - ((x.toUInt64 >>> ((7 : Int32).toInt64.toUInt64 &&& Int64.toUInt64 63)).toInt64)
def jn_ (a b : Int64) : Int64 := (a &&& j7_ (j5_ a b)) ||| (b &&& (j7_ (j5_ a b) ^^^ (-1)))
theorem j5_eq {f g : Nat → Nat} (hf : ∀ i, i < 8 → f i < 128 ∧ (6 ≤ i → f i = 0)) (hg : ∀ i, i < 8 → g i < 128 ∧ (6 ≤ i → g i = 0)) : j5_ (lN (pw_l f 8)) (lN (pw_l g 8)) = lN (pw_l (fun i => 128 * tb_ f g i) 8) := by
  have f1 : ∀ i, i < 8 → f i < 256 := fun i hi => by have := (hf i hi).1; omega
  have e1 : pw_l f 8 ||| pw_l tt_ 8 = pw_l (fun i => f i + tt_ i) 8 := by
    rw [pw_or 8 f1 (fun i _ => tt_lt i)]
    refine pw_congr 8 (fun i hi => ?_)
    show f i ||| tt_ i = f i + tt_ i
    unfold tt_
    by_cases z : i < 6
    · rw [if_pos z]; exact tt_or _ (hf i hi).1
    · rw [if_neg z]; simp
  have s1 := pw_sub 8 (f := fun i => f i + tt_ i) (g := g) (fun i hi => by
    have := hg i hi
    show g i ≤ f i + tt_ i
    unfold tt_
    by_cases z : i < 6
    · rw [if_pos z]; omega
    · rw [if_neg z]; omega)
  have d1 : ∀ i, i < 8 → f i + tt_ i - g i < 256 := fun i hi => by
    have := hf i hi
    unfold tt_
    by_cases z : i < 6
    · rw [if_pos z]; omega
    · rw [if_neg z]; omega
  have e2 : pw_l (fun i => f i + tt_ i - g i) 8 &&& pw_l tt_ 8 = pw_l (fun i => 128 * tb_ f g i) 8 := by
    rw [pw_and 8 d1 (fun i _ => tt_lt i)]
    refine pw_congr 8 (fun i hi => ?_)
    show (f i + tt_ i - g i) &&& tt_ i = 128 * tb_ f g i
    have d := d1 i hi
    have a := hf i hi
    have b := hg i hi
    unfold tt_ tb_
    unfold tt_ at d
    by_cases z : i < 6
    · rw [if_pos z] at d
      rw [if_pos z, tt_and _ d]
      by_cases y : g i ≤ f i
      · rw [if_pos (by omega), if_pos ⟨z, y⟩]
      · rw [if_neg (by omega), if_neg (fun w => y w.2)]
    · rw [if_neg z, if_neg (fun w => z w.1), Nat.and_zero]
  unfold j5_
  rw [tt_c, wb_or (ln_b8 f1) (ln_b8 (fun i _ => tt_lt i)), e1, lN_sub s1.1, s1.2, wb_and (ln_b8 d1) (ln_b8 (fun i _ => tt_lt i)), e2]
theorem j7_eq {t : Nat → Nat} (ht : ∀ i, t i = 0 ∨ t i = 1) : j7_ (lN (pw_l (fun i => 128 * t i) 8)) = lN (pw_l (fun i => 255 * t i) 8) := by
  have b1 : ∀ i, i < 8 → 128 * t i < 256 := fun i _ => by rcases ht i with h | h <;> omega
  have b2 : ∀ i, i < 8 → t i < 256 := fun i _ => by rcases ht i with h | h <;> omega
  have m1 := pw_mul 128 8 t
  have m2 := pw_mul 255 8 t
  have l1 := ln_b8 b1
  have e1 : lN (pw_l (fun i => 128 * t i) 8) <<< ((1 : Int32).toInt64 &&& 63) = lN (pw_l (fun i => 128 * t i) 8 * 2 ^ 1) := wb_shl _ (k := 1) (by decide)
  have e2 : ((lN (pw_l (fun i => 128 * t i) 8)).toUInt64 >>> ((7 : Int32).toInt64.toUInt64 &&& Int64.toUInt64 63)).toInt64 = lN (pw_l (fun i => 128 * t i) 8 / 2 ^ 7) := wb_shr l1 (k := 7) (by decide)
  unfold j7_
  rw [e1, e2, ← m1, ← m2]
  generalize pw_l t 8 = q
  rw [lN_sub (by omega)]
  exact congrArg lN (by omega)
theorem jn_eq {a b : Int64} (ha : ok_ a) (hb : ok_ b) : jn_ a b = lN (pw_l (fun i => if ln_ b i ≤ ln_ a i then ln_ a i else ln_ b i) 8) := by
  have fa : ∀ i, i < 8 → ln_ a i < 256 := fun i _ => ln_lt a i
  have fb : ∀ i, i < 8 → ln_ b i < 256 := fun i _ => ln_lt b i
  have h5 : j5_ a b = lN (pw_l (fun i => 128 * tb_ (ln_ a) (ln_ b) i) 8) := by
    have h := j5_eq ha hb
    rw [← ln_of a, ← ln_of b] at h
    exact h
  have ht := tb_01 (ln_ a) (ln_ b)
  have h7 := j7_eq ht
  have c1 : ∀ i, i < 8 → 255 * tb_ (ln_ a) (ln_ b) i < 256 := fun i _ => by rcases ht i with h | h <;> omega
  have c2 : ∀ i, i < 8 → 255 * tb_ (ln_ a) (ln_ b) i ^^^ 255 < 256 := fun i _ => by rcases ht i with h | h <;> rw [h] <;> decide
  have x1 : pw_l (fun i => 255 * tb_ (ln_ a) (ln_ b) i) 8 ^^^ pw_l (fun _ => 255) 8 = pw_l (fun i => 255 * tb_ (ln_ a) (ln_ b) i ^^^ 255) 8 := pw_xor 8 c1 (fun _ _ => by decide)
  have x2 : pw_l (ln_ a) 8 &&& pw_l (fun i => 255 * tb_ (ln_ a) (ln_ b) i) 8 = pw_l (fun i => ln_ a i &&& (255 * tb_ (ln_ a) (ln_ b) i)) 8 := pw_and 8 fa c1
  have x3 : pw_l (ln_ b) 8 &&& pw_l (fun i => 255 * tb_ (ln_ a) (ln_ b) i ^^^ 255) 8 = pw_l (fun i => ln_ b i &&& (255 * tb_ (ln_ a) (ln_ b) i ^^^ 255)) 8 := pw_and 8 fb c2
  have d1 : ∀ i, i < 8 → ln_ a i &&& (255 * tb_ (ln_ a) (ln_ b) i) < 256 := fun i hi => Nat.lt_of_le_of_lt Nat.and_le_left (fa i hi)
  have d2 : ∀ i, i < 8 → ln_ b i &&& (255 * tb_ (ln_ a) (ln_ b) i ^^^ 255) < 256 := fun i hi => Nat.lt_of_le_of_lt Nat.and_le_left (fb i hi)
  have x4 := pw_or 8 d1 d2
  have h : jn_ a b = (lN (pw_l (ln_ a) 8) &&& j7_ (j5_ a b)) ||| (lN (pw_l (ln_ b) 8) &&& (j7_ (j5_ a b) ^^^ (-1))) := by
    rw [← ln_of a, ← ln_of b]
    rfl
  rw [h, h5, h7, tt_m1, lN_xor, x1, wb_and (ln_b8 fa) (ln_b8 c1), x2, wb_and (ln_b8 fb) (ln_b8 c2), x3, wb_or (ln_b8 d1) (ln_b8 d2), x4]
  refine congrArg lN (pw_congr 8 (fun i hi => ?_))
  show (ln_ a i &&& (255 * tb_ (ln_ a) (ln_ b) i)) ||| (ln_ b i &&& (255 * tb_ (ln_ a) (ln_ b) i ^^^ 255)) = if ln_ b i ≤ ln_ a i then ln_ a i else ln_ b i
  have oa := ha i hi
  have ob := hb i hi
  unfold tb_
  by_cases z : i < 6
  · by_cases y : ln_ b i ≤ ln_ a i
    · rw [if_pos ⟨z, y⟩, if_pos y, show 255 * 1 ^^^ 255 = 0 from by decide, Nat.and_zero, Nat.or_zero]
      exact tt_255 _ (fa i hi)
    · rw [if_neg (fun w => y w.2), if_neg y, show 255 * 0 ^^^ 255 = 255 from by decide, Nat.mul_zero, Nat.and_zero, Nat.zero_or]
      exact tt_255 _ (fb i hi)
  · have z6 : 6 ≤ i := by omega
    rw [oa.2 z6, ob.2 z6]
    simp
theorem ln_jn {a b : Int64} (ha : ok_ a) (hb : ok_ b) {i : Nat} (hi : i < 8) : ln_ (jn_ a b) i = if ln_ b i ≤ ln_ a i then ln_ a i else ln_ b i := by
  rw [jn_eq ha hb]
  exact ln_pw (f := fun i => if ln_ b i ≤ ln_ a i then ln_ a i else ln_ b i) (fun j _ => by
    have p := ln_lt a j
    have q := ln_lt b j
    show (if ln_ b j ≤ ln_ a j then ln_ a j else ln_ b j) < 256
    split <;> omega) hi
theorem js_iff {a b : Int64} (ha : ok_ a) (hb : ok_ b) : (((b ||| 141289400074368) - a) &&& 141289400074368) = 141289400074368 ↔ ∀ i, i < 8 → ln_ a i ≤ ln_ b i := by
  show j5_ b a = _ ↔ _
  have h5 : j5_ b a = lN (pw_l (fun i => 128 * tb_ (ln_ b) (ln_ a) i) 8) := by
    have h := j5_eq hb ha
    rw [← ln_of a, ← ln_of b] at h
    exact h
  have ht := tb_01 (ln_ b) (ln_ a)
  have c1 : ∀ i, i < 8 → 128 * tb_ (ln_ b) (ln_ a) i < 256 := fun i _ => by rcases ht i with h | h <;> omega
  rw [h5, tt_c]
  constructor
  · intro h i hi
    have e := congrArg (fun S => ln_ S i) h
    have e' : 128 * tb_ (ln_ b) (ln_ a) i = tt_ i := by
      rw [← ln_pw (f := fun i => 128 * tb_ (ln_ b) (ln_ a) i) c1 hi, ← ln_pw (f := tt_) (fun i _ => tt_lt i) hi]
      exact e
    have oa := ha i hi
    by_cases z : i < 6
    · by_cases y : ln_ a i ≤ ln_ b i
      · exact y
      · unfold tb_ tt_ at e'
        rw [if_neg (fun w => y w.2), if_pos z] at e'
        omega
    · rw [oa.2 (by omega)]; omega
  · intro h
    refine congrArg lN (pw_congr 8 (fun i hi => ?_))
    show 128 * tb_ (ln_ b) (ln_ a) i = tt_ i
    unfold tb_ tt_
    by_cases z : i < 6
    · rw [if_pos ⟨z, h i hi⟩, if_pos z]
    · rw [if_neg (fun w => z w.1), if_neg z]
theorem ln_lane (S : Int64) {n : Nat} (hn : n < 8) : (((S.toUInt64 >>> ((nI n * 8).toInt64.toUInt64 &&& Int64.toUInt64 63)).toInt64) &&& 255).toInt32 = nI (ln_ S n) := by
  obtain ⟨s, hs, rfl⟩ := wb_of S
  have e : nI n * 8 = nI (n * 8) := pk_mul n 8
  have e2 : lN (s / 2 ^ (n * 8)) &&& 255 = lN (s / 2 ^ (n * 8) % 2 ^ 8) := wb_mask (k := 8) (Nat.lt_of_le_of_lt (Nat.div_le_self _ _) hs) (by decide)
  rw [e, wb_shr hs (by omega), e2, lN_i]
  unfold ln_
  rw [wb_tn hs, Nat.mul_comm n 8, Nat.pow_mul]
theorem ln_dot {m n : Nat} (hm : m < 256) (hn : n < 8) {i : Nat} (hi : i < 8) : ln_ ((nI m).toInt64 <<< ((nI n * 8).toInt64 &&& 63)) i = if i = n then m else 0 := by
  have e : nI n * 8 = nI (n * 8) := pk_mul n 8
  rw [e, nI_l (by omega), wb_shl m (by omega), Nat.mul_comm n 8, Nat.pow_mul, show (2 : Nat) ^ 8 = 256 from rfl, ← pw_one 8 n m hn]
  exact ln_pw (f := fun i => if i = n then m else 0) (fun j _ => by
    show (if j = n then m else 0) < 256
    split <;> omega) hi
end
section
/-! the log of a key: write i (i < C) is of node D i; its number is ct_n D (D i) i + 1 -/
def ct_n (D : Nat → Nat) (n : Nat) : Nat → Nat
  | 0 => 0
  | i + 1 => ct_n D n i + (if D i = n then 1 else 0)
theorem ct_t {D : Nat → Nat} {n i : Nat} (h : D i = n) : ct_n D n (i + 1) = ct_n D n i + 1 := by simp only [ct_n]; rw [if_pos h]
theorem ct_f {D : Nat → Nat} {n i : Nat} (h : ¬ D i = n) : ct_n D n (i + 1) = ct_n D n i := by simp only [ct_n]; rw [if_neg h, Nat.add_zero]
theorem ct_mono {D : Nat → Nat} {n i : Nat} : ∀ {j : Nat}, i ≤ j → ct_n D n i ≤ ct_n D n j
  | 0, h => by
    have e : i = 0 := by omega
    rw [e]
    exact Nat.le_refl _
  | j + 1, h => by
    rcases Nat.lt_or_ge i (j + 1) with z | z
    · have a := ct_mono (D := D) (n := n) (i := i) (j := j) (by omega)
      simp only [ct_n]
      omega
    · have e : i = j + 1 := by omega
      rw [e]
      exact Nat.le_refl _
theorem ct_lt {D : Nat → Nat} {n i j : Nat} (h : D i = n) (hij : i < j) : ct_n D n i < ct_n D n j := by
  have a := ct_t h
  have b := ct_mono (D := D) (n := n) (i := i + 1) (j := j) hij
  omega
theorem ct_le (D : Nat → Nat) (n : Nat) : ∀ i, ct_n D n i ≤ i
  | 0 => Nat.le_refl _
  | i + 1 => by
    have a := ct_le D n i
    simp only [ct_n]
    split <;> omega
theorem ct_ex {D : Nat → Nat} {n : Nat} : ∀ {C m : Nat}, m < ct_n D n C → ∃ i, i < C ∧ D i = n ∧ ct_n D n i = m
  | 0, m, h => by simp only [ct_n] at h; omega
  | C + 1, m, h => by
    by_cases z : D C = n
    · rw [ct_t z] at h
      rcases Nat.lt_or_ge m (ct_n D n C) with y | y
      · obtain ⟨i, a, b, c⟩ := ct_ex y
        exact ⟨i, by omega, b, c⟩
      · exact ⟨C, by omega, z, by omega⟩
    · rw [ct_f z] at h
      obtain ⟨i, a, b, c⟩ := ct_ex h
      exact ⟨i, by omega, b, c⟩
theorem ct_0 {D : Nat → Nat} {n : Nat} : ∀ {C : Nat}, (∀ i, i < C → ¬ D i = n) → ct_n D n C = 0
  | 0, _ => rfl
  | C + 1, h => by rw [ct_f (h C (by omega))]; exact ct_0 (fun i hi => h i (by omega))
theorem ct_cg {D D' : Nat → Nat} {n : Nat} : ∀ {C : Nat}, (∀ i, i < C → D' i = D i) → ct_n D' n C = ct_n D n C
  | 0, _ => rfl
  | C + 1, h => by simp only [ct_n]; rw [h C (by omega), ct_cg (fun i hi => h i (by omega))]
theorem ct_inj {D : Nat → Nat} {n i j : Nat} (hi : D i = n) (hj : D j = n) (h : ct_n D n i = ct_n D n j) : i = j := by
  rcases Nat.lt_or_ge i j with z | z
  · have := ct_lt hi z; omega
  · rcases Nat.lt_or_ge j i with y | y
    · have := ct_lt hj y; omega
    · omega
/-! S stands for the set P of writes -/
def cx_ (C : Nat) (D : Nat → Nat) : Prop := C ≤ 40 ∧ ∀ i, i < C → D i < 6
def rs_p (C : Nat) (D : Nat → Nat) (S : Int64) (P : Nat → Prop) : Prop := (∀ n, n < 8 → ln_ S n ≤ ct_n D n C) ∧ ∀ i, i < 40 → (P i ↔ i < C ∧ ct_n D (D i) i < ln_ S (D i))
section
variable {C : Nat} {D : Nat → Nat} {S S' : Int64} {P P' : Nat → Prop}
theorem rs_ok (hc : cx_ C D) (h : rs_p C D S P) : ok_ S := by
  intro i hi
  have a := h.1 i hi
  have b := ct_le D i C
  have c := hc.1
  refine ⟨by omega, fun z => ?_⟩
  have d : ct_n D i C = 0 := ct_0 (fun j hj e => by have := hc.2 j hj; omega)
  omega
theorem rs_join (hc : cx_ C D) (h : rs_p C D S P) (h' : rs_p C D S' P') : rs_p C D (jn_ S S') (fun i => P i ∨ P' i) := by
  have o := rs_ok hc h
  have o' := rs_ok hc h'
  refine ⟨fun n hn => ?_, fun i hi => ?_⟩
  · rw [ln_jn o o' hn]
    have a := h.1 n hn
    have b := h'.1 n hn
    split <;> omega
  · show P i ∨ P' i ↔ _
    rw [h.2 i hi, h'.2 i hi]
    by_cases z : i < C
    · have d := hc.2 i z
      rw [ln_jn o o' (by omega)]
      split <;> omega
    · omega
theorem rs_sub (h : rs_p C D S P) (h' : rs_p C D S' P') (hc : cx_ C D) : (∀ i, i < 8 → ln_ S i ≤ ln_ S' i) ↔ ∀ i, i < 40 → P i → P' i := by
  constructor
  · intro a i hi p
    rw [h.2 i hi] at p
    rw [h'.2 i hi]
    have d := hc.2 i p.1
    have e := a (D i) (by omega)
    omega
  · intro a n hn
    apply Nat.le_of_not_lt
    intro z
    have b := h.1 n hn
    obtain ⟨i, hi, e, c⟩ := ct_ex (D := D) (n := n) (C := C) (m := ln_ S' n) (by omega)
    have h40 : i < 40 := by have := hc.1; omega
    have p : P i := by rw [h.2 i h40, e]; omega
    have q := a i h40 p
    rw [h'.2 i h40, e] at q
    omega
theorem rs_eq (h : rs_p C D S P) (h' : rs_p C D S' P') (hc : cx_ C D) : S = S' ↔ ∀ i, i < 40 → (P i ↔ P' i) := by
  constructor
  · intro e i hi
    subst e
    rw [h.2 i hi, h'.2 i hi]
  · intro e
    have a := (rs_sub h h' hc).mpr (fun i hi => (e i hi).mp)
    have b := (rs_sub h' h hc).mpr (fun i hi => (e i hi).mpr)
    exact ln_ext (fun i hi => Nat.le_antisymm (a i hi) (b i hi))
theorem rs_0 : rs_p C D 0 (fun _ => False) := by
  refine ⟨fun n _ => ?_, fun i _ => ?_⟩
  · rw [ln_0]; exact Nat.zero_le _
  · rw [ln_0]; exact ⟨fun z => z.elim, fun z => by omega⟩
theorem rs_cg (h : rs_p C D S P) (e : ∀ i, i < 40 → (P' i ↔ P i)) : rs_p C D S P' := ⟨h.1, fun i hi => (e i hi).trans (h.2 i hi)⟩
theorem rs_z (h : rs_p C D S P) (hc : cx_ C D) : S = 0 ↔ ∀ i, i < 40 → ¬ P i := by
  rw [rs_eq h rs_0 hc]
  exact ⟨fun a i hi p => (a i hi).mp p, fun a i hi => ⟨a i hi, fun z => z.elim⟩⟩
theorem rs_out (h : rs_p C D S P) {i : Nat} (hi : i < 40) (p : P i) : i < C := ((h.2 i hi).mp p).1
theorem rs_ext {D' : Nat → Nat} (h : rs_p C D S P) (hd : ∀ i, i < C → D' i = D i) (hD : D' C < 8) : rs_p (C + 1) D' S P := by
  refine ⟨fun n hn => ?_, fun i hi => ?_⟩
  · have a := h.1 n hn
    have b : ct_n D' n C = ct_n D n C := ct_cg hd
    have c := ct_mono (D := D') (n := n) (i := C) (j := C + 1) (by omega)
    omega
  · rw [h.2 i hi]
    by_cases z : i < C
    · rw [hd i z, ct_cg (D := D) (D' := D') (n := D i) (C := i) (fun j hj => hd j (by omega))]
      omega
    · refine ⟨fun w => absurd w.1 z, fun w => ?_⟩
      have e : i = C := by omega
      subst e
      have b : ct_n D' (D' i) i = ct_n D (D' i) i := ct_cg hd
      have a := h.1 (D' i) hD
      omega
/-- the writes of node n up to number m, m at most their count: the long with m in lane n -/
theorem rs_dot {n m : Nat} (hc : cx_ C D) (hn : n < 6) (hm : m < 256) (hmc : m ≤ ct_n D n C) : rs_p C D ((nI m).toInt64 <<< ((nI n * 8).toInt64 &&& 63)) (fun i => i < C ∧ D i = n ∧ ct_n D n i < m) := by
  refine ⟨fun j hj => ?_, fun i hi => ?_⟩
  · rw [ln_dot hm (by omega) hj]
    by_cases e : j = n
    · rw [if_pos e, e]; exact hmc
    · rw [if_neg e]; exact Nat.zero_le _
  · show (i < C ∧ D i = n ∧ ct_n D n i < m) ↔ _
    by_cases z : i < C
    · have d := hc.2 i z
      rw [ln_dot hm (by omega) (by omega)]
      by_cases e : D i = n
      · rw [if_pos e, e]; exact ⟨fun w => ⟨w.1, w.2.2⟩, fun w => ⟨w.1, rfl, w.2⟩⟩
      · rw [if_neg e]
        exact ⟨fun w => absurd w.2.1 e, fun w => by omega⟩
    · exact ⟨fun w => absurd w.1 z, fun w => absurd w.1 z⟩
end
end
section
/-! the component: one lemma a helper, each with a general post -/
theorem ix_6 (c i : Nat) : nI c * 6 + nI i = nI (c * 6 + i) := by rw [show (6 : Int32) = nI 6 from rfl, pk_mul, nI_add]
theorem ix_4 (c i : Nat) : nI c * 4 + nI i = nI (c * 4 + i) := by rw [show (4 : Int32) = nI 4 from rfl, pk_mul, nI_add]
theorem ix_h (a b c : Nat) : (nI a * 6 + nI b) * 4 + nI c = nI ((a * 6 + b) * 4 + c) := by rw [ix_6, ix_4]
theorem ix_g (a b c : Nat) : (nI a * 6 + nI b) * 41 + nI c = nI ((a * 6 + b) * 41 + c) := by rw [ix_6, show (41 : Int32) = nI 41 from rfl, pk_mul, nI_add]
theorem nb_0 : vp_nar .boolean 0 = 0 := rfl
theorem nb_1 : vp_nar .boolean 1 = 1 := rfl
/-! answers of a client wiped, message clients cleared, counts -/
def zr_ (a : Nat → Int32) (c i : Nat) : Nat → Int32 := fun j => if c * 6 ≤ j ∧ j < c * 6 + i then 0 else a j
def zr_L (a : Nat → Int64) (c i : Nat) : Nat → Int64 := fun j => if c * 6 ≤ j ∧ j < c * 6 + i then 0 else a j
theorem zr_0 (a : Nat → Int32) (c : Nat) : zr_ a c 0 = a := by
  funext j
  exact if_neg (by omega)
theorem zr_0L (a : Nat → Int64) (c : Nat) : zr_L a c 0 = a := by
  funext j
  exact if_neg (by omega)
theorem zr_s (a : Nat → Int32) (c i : Nat) : upd (zr_ a c i) (c * 6 + i) 0 = zr_ a c (i + 1) := by
  funext j
  simp only [upd, zr_]
  by_cases z : j = c * 6 + i
  · rw [if_pos z, if_pos (by omega)]
  · rw [if_neg z]
    by_cases y : c * 6 ≤ j ∧ j < c * 6 + i
    · rw [if_pos y, if_pos (by omega)]
    · rw [if_neg y, if_neg (by omega)]
theorem zr_sL (a : Nat → Int64) (c i : Nat) : vp_updL (zr_L a c i) (c * 6 + i) 0 = zr_L a c (i + 1) := by
  funext j
  simp only [vp_updL, zr_L]
  by_cases z : j = c * 6 + i
  · rw [if_pos z, if_pos (by omega)]
  · rw [if_neg z]
    by_cases y : c * 6 ≤ j ∧ j < c * 6 + i
    · rw [if_pos y, if_pos (by omega)]
    · rw [if_neg y, if_neg (by omega)]
def cl_ (a : Nat → Int32) (c i : Nat) : Nat → Int32 := fun j => if j < i ∧ a j = nI c then -1 else a j
theorem cl_0 (a : Nat → Int32) (c : Nat) : cl_ a c 0 = a := by
  funext j
  exact if_neg (fun w => by omega)
theorem cl_i (a : Nat → Int32) (c i : Nat) : cl_ a c i i = a i := if_neg (fun w => by omega)
theorem cl_t {a : Nat → Int32} {c i : Nat} (h : a i = nI c) : upd (cl_ a c i) i (-1) = cl_ a c (i + 1) := by
  funext j
  simp only [upd, cl_]
  by_cases z : j = i
  · rw [if_pos z, if_pos ⟨by omega, by rw [z]; exact h⟩]
  · rw [if_neg z]
    by_cases y : j < i ∧ a j = nI c
    · rw [if_pos y, if_pos ⟨by omega, y.2⟩]
    · rw [if_neg y, if_neg (fun w => y ⟨by omega, w.2⟩)]
theorem cl_f {a : Nat → Int32} {c i : Nat} (h : ¬ a i = nI c) : cl_ a c i = cl_ a c (i + 1) := by
  funext j
  simp only [cl_]
  by_cases y : j < i ∧ a j = nI c
  · rw [if_pos y, if_pos ⟨by omega, y.2⟩]
  · rw [if_neg y, if_neg (fun w => y ⟨by
      rcases Nat.lt_or_ge j i with q | q
      · exact q
      · have e : j = i := by omega
        rw [e] at w
        exact absurd w.2 h, w.2⟩)]
def oc_ (a : Nat → Int32) (x : Int32) : Nat → Nat
  | 0 => 0
  | i + 1 => oc_ a x i + (if a i = x then 1 else 0)
theorem oc_t {a : Nat → Int32} {x : Int32} {i : Nat} (h : a i = x) : nI (oc_ a x i) + 1 = nI (oc_ a x (i + 1)) := by
  simp only [oc_]
  rw [if_pos h, nI_1]
theorem oc_f {a : Nat → Int32} {x : Int32} {i : Nat} (h : ¬ a i = x) : oc_ a x i = oc_ a x (i + 1) := by
  simp only [oc_]
  rw [if_neg h, Nat.add_zero]
theorem oc_le (a : Nat → Int32) (x : Int32) : ∀ i, oc_ a x i ≤ i
  | 0 => Nat.le_refl _
  | i + 1 => by
    have := oc_le a x i
    simp only [oc_]
    split <;> omega
section
variable {N R K : Nat} {xlt xls xlc : Int64} {xrq xwq xpc : Int32} {xal xrg xkw xac xlv xrs xrk xry xro xra xrn xan xmk xmf xmt xmy xmg xmc xpn : Nat → Int32} {xlp xst xhi xcx xaw xms : Nat → Int64}
theorem x_free {post : SX → Prop} {s : Nat} (hs : s < 24) (h : post (xlt, nI N, nI R, xrq, xwq, xpc, xls, xlc, nI K, xal, xrg, xkw, xac, xlv, xlp, xst, xhi, xcx, xrs, xrk, xry, xro, xra, xrn, xan, xaw, upd xmk s 0, upd xmf s (-1), upd xmt s (-1), upd xmy s (-1), upd xmg s (-1), upd xmc s (-1), vp_updL xms s 0, xpn)) : wpX_freeSlot post (xlt, nI N, nI R, xrq, xwq, xpc, xls, xlc, nI K, xal, xrg, xkw, xac, xlv, xlp, xst, xhi, xcx, xrs, xrk, xry, xro, xra, xrn, xan, xaw, xmk, xmf, xmt, xmy, xmg, xmc, xms, xpn) (nI s) := by
  have i : vp_in (nI s) 24 := vp_in_nI hs (by decide)
  unfold wpX_freeSlot
  dsimp only
  rw [nI_clamp (n := s) (by omega)]
  exact ⟨i, nm_e ⟨i, nm_e ⟨i, nm_e ⟨i, nm_e ⟨i, nm_e ⟨i, nm_e ⟨i, nm_e h⟩⟩⟩⟩⟩⟩⟩
theorem x_turn {post : SX → Prop} {s : Nat} {k : Int32} (hs : s < 24) (h : post (xlt, nI N, nI R, xrq, xwq, xpc, xls, xlc, nI K, xal, xrg, xkw, xac, xlv, xlp, xst, xhi, xcx, xrs, xrk, xry, xro, xra, xrn, xan, xaw, upd xmk s k, upd xmf s (xmt s), upd xmt s (xmf s), xmy, xmg, xmc, xms, xpn)) : wpX_turnAround post (xlt, nI N, nI R, xrq, xwq, xpc, xls, xlc, nI K, xal, xrg, xkw, xac, xlv, xlp, xst, xhi, xcx, xrs, xrk, xry, xro, xra, xrn, xan, xaw, xmk, xmf, xmt, xmy, xmg, xmc, xms, xpn) (nI s) k := by
  have i : vp_in (nI s) 24 := vp_in_nI hs (by decide)
  unfold wpX_turnAround
  dsimp only
  rw [nI_clamp (n := s) (by omega)]
  exact ⟨i, nm_e ⟨i, i, nm_e ⟨i, nm_e ⟨i, nm_e h⟩⟩⟩⟩
theorem x_join {post : Int64 → Prop} {a b : Int64} (h : post (jn_ a b)) : wpX_join post (xlt, nI N, nI R, xrq, xwq, xpc, xls, xlc, nI K, xal, xrg, xkw, xac, xlv, xlp, xst, xhi, xcx, xrs, xrk, xry, xro, xra, xrn, xan, xaw, xmk, xmf, xmt, xmy, xmg, xmc, xms, xpn) a b := by
  unfold wpX_join
  exact nm_e (nm_e h)
theorem x_jst {post : SX → Prop} {t y : Nat} {e : Int64} (h : t * 4 + y < 24) (hp : post (xlt, nI N, nI R, xrq, xwq, xpc, xls, xlc, nI K, xal, xrg, xkw, xac, xlv, xlp, vp_updL xst (t * 4 + y) (jn_ (xst (t * 4 + y)) e), xhi, xcx, xrs, xrk, xry, xro, xra, xrn, xan, xaw, xmk, xmf, xmt, xmy, xmg, xmc, xms, xpn)) : wpX_joinStore post (xlt, nI N, nI R, xrq, xwq, xpc, xls, xlc, nI K, xal, xrg, xkw, xac, xlv, xlp, xst, xhi, xcx, xrs, xrk, xry, xro, xra, xrn, xan, xaw, xmk, xmf, xmt, xmy, xmg, xmc, xms, xpn) (nI t) (nI y) e := by
  have i : vp_in (nI (t * 4 + y)) 24 := vp_in_nI h (by decide)
  unfold wpX_joinStore
  dsimp only
  refine nm_r (ix_4 t y) ?_
  rw [nI_clamp (n := t * 4 + y) (by omega)]
  exact ⟨i, x_join ⟨i, nm_e hp⟩⟩
theorem x_jhi {post : SX → Prop} {a t y : Nat} {e : Int64} (h : (a * 6 + t) * 4 + y < 144) (hp : post (xlt, nI N, nI R, xrq, xwq, xpc, xls, xlc, nI K, xal, xrg, xkw, xac, xlv, xlp, xst, vp_updL xhi ((a * 6 + t) * 4 + y) (jn_ (xhi ((a * 6 + t) * 4 + y)) e), xcx, xrs, xrk, xry, xro, xra, xrn, xan, xaw, xmk, xmf, xmt, xmy, xmg, xmc, xms, xpn)) : wpX_joinHint post (xlt, nI N, nI R, xrq, xwq, xpc, xls, xlc, nI K, xal, xrg, xkw, xac, xlv, xlp, xst, xhi, xcx, xrs, xrk, xry, xro, xra, xrn, xan, xaw, xmk, xmf, xmt, xmy, xmg, xmc, xms, xpn) (nI a) (nI t) (nI y) e := by
  have i : vp_in (nI ((a * 6 + t) * 4 + y)) 144 := vp_in_nI h (by decide)
  unfold wpX_joinHint wpX_hintAt
  dsimp only
  rw [ix_h, nI_clamp (n := (a * 6 + t) * 4 + y) (by omega)]
  exact ⟨i, x_join ⟨i, nm_e hp⟩⟩
theorem x_sub {post : Int32 → Prop} {a b : Int64} (ha : ok_ a) (hb : ok_ b) (h1 : (∀ i, i < 8 → ln_ a i ≤ ln_ b i) → post 1) (h0 : ¬ (∀ i, i < 8 → ln_ a i ≤ ln_ b i) → post 0) : wpX_isSubset post (xlt, nI N, nI R, xrq, xwq, xpc, xls, xlc, nI K, xal, xrg, xkw, xac, xlv, xlp, xst, xhi, xcx, xrs, xrk, xry, xro, xra, xrn, xan, xaw, xmk, xmf, xmt, xmy, xmg, xmc, xms, xpn) a b :=
  ⟨fun z => h1 ((js_iff ha hb).mp z), fun z => h0 (fun w => z ((js_iff ha hb).mpr w))⟩
theorem x_set {post : SX → Prop} {a t y : Nat} {e : Int64} (h : (a * 6 + t) * 4 + y < 144) (ha : ok_ (xhi ((a * 6 + t) * 4 + y))) (hb : ok_ e) (h1 : (∀ i, i < 8 → ln_ (xhi ((a * 6 + t) * 4 + y)) i ≤ ln_ e i) → post (xlt, nI N, nI R, xrq, xwq, xpc, xls, xlc, nI K, xal, xrg, xkw, xac, xlv, xlp, xst, vp_updL xhi ((a * 6 + t) * 4 + y) 0, xcx, xrs, xrk, xry, xro, xra, xrn, xan, xaw, xmk, xmf, xmt, xmy, xmg, xmc, xms, xpn)) (h0 : ¬ (∀ i, i < 8 → ln_ (xhi ((a * 6 + t) * 4 + y)) i ≤ ln_ e i) → post (xlt, nI N, nI R, xrq, xwq, xpc, xls, xlc, nI K, xal, xrg, xkw, xac, xlv, xlp, xst, xhi, xcx, xrs, xrk, xry, xro, xra, xrn, xan, xaw, xmk, xmf, xmt, xmy, xmg, xmc, xms, xpn)) : wpX_settleHint post (xlt, nI N, nI R, xrq, xwq, xpc, xls, xlc, nI K, xal, xrg, xkw, xac, xlv, xlp, xst, xhi, xcx, xrs, xrk, xry, xro, xra, xrn, xan, xaw, xmk, xmf, xmt, xmy, xmg, xmc, xms, xpn) (nI a) (nI t) (nI y) e := by
  have i : vp_in (nI ((a * 6 + t) * 4 + y)) 144 := vp_in_nI h (by decide)
  unfold wpX_settleHint wpX_hintAt
  dsimp only
  rw [ix_h, nI_clamp (n := (a * 6 + t) * 4 + y) (by omega)]
  exact ⟨i, x_sub ha hb (fun z => br_f (by decide) ⟨i, nm_e (h1 z)⟩) (fun z => br_t rfl (h0 z))⟩
theorem x_lane {post : Int32 → Prop} {S : Int64} {n : Nat} (hn : n < 8) (h : post (nI (ln_ S n))) : wpX_lane post (xlt, nI N, nI R, xrq, xwq, xpc, xls, xlc, nI K, xal, xrg, xkw, xac, xlv, xlp, xst, xhi, xcx, xrs, xrk, xry, xro, xra, xrn, xan, xaw, xmk, xmf, xmt, xmy, xmg, xmc, xms, xpn) S (nI n) := by
  unfold wpX_lane
  dsimp only
  rw [ln_lane S hn]
  exact h
theorem x_rec {post : SX → Prop} {c n : Nat} {e : Int64} (h : c * 6 + n < 24) (hp : post (xlt, nI N, nI R, xrq, xwq, xpc, xls, xlc, nI K, xal, xrg, xkw, xac, xlv, xlp, xst, xhi, xcx, xrs, xrk, xry, xro, xra, xrn, upd xan (c * 6 + n) 1, vp_updL xaw (c * 6 + n) e, xmk, xmf, xmt, xmy, xmg, xmc, xms, xpn)) : wpX_recordAnswer post (xlt, nI N, nI R, xrq, xwq, xpc, xls, xlc, nI K, xal, xrg, xkw, xac, xlv, xlp, xst, xhi, xcx, xrs, xrk, xry, xro, xra, xrn, xan, xaw, xmk, xmf, xmt, xmy, xmg, xmc, xms, xpn) (nI c) (nI n) e := by
  have i : vp_in (nI (c * 6 + n)) 24 := vp_in_nI h (by decide)
  unfold wpX_recordAnswer
  dsimp only
  rw [ix_6, nI_clamp (n := c * 6 + n) (by omega), nb_1]
  exact ⟨i, nm_e ⟨i, nm_e hp⟩⟩
theorem x_disc_l {post : SX → Prop} {c : Nat} (hc : c < 4) (h : post (xlt, nI N, nI R, xrq, xwq, xpc, xls, xlc, nI K, xal, xrg, xkw, xac, xlv, xlp, xst, xhi, xcx, xrs, xrk, xry, xro, xra, xrn, zr_ xan c 6, zr_L xaw c 6, xmk, xmf, xmt, xmy, xmg, xmc, xms, xpn)) : ∀ d i m, i + d = 6 → wX_discardAnswers_2 post (nI c) xlt (nI N) (nI R) xrq xwq xpc xls xlc (nI K) (m + d + 1) (nI i) xal xrg xkw xac xlv xlp xst xhi xcx xrs xrk xry xro xra xrn (zr_ xan c i) (zr_L xaw c i) xmk xmf xmt xmy xmg xmc xms xpn := by
  intro d
  induction d with
  | zero =>
    intro i m e
    have e6 : i = 6 := by omega
    subst e6
    exact br_t (nI_le (Nat.le_refl 6) (by decide)) h
  | succ d ih =>
    intro i m e
    have v : vp_in (nI (c * 6 + i)) 24 := vp_in_nI (by omega) (by decide)
    rw [wX_discardAnswers_2]
    dsimp only
    rw [ix_6, nI_clamp (n := c * 6 + i) (by omega)]
    exact br_f (nI_ge (b := 6) (by omega) (by decide)) ⟨v, nm_r (zr_s xan c i) ⟨v, nm_r (zr_sL xaw c i) (nm_r (nI_1 i) (ih (i + 1) m (by omega)))⟩⟩
theorem x_disc {post : SX → Prop} {c : Nat} (hc : c < 4) (h : post (xlt, nI N, nI R, xrq, xwq, xpc, xls, xlc, nI K, xal, xrg, xkw, xac, xlv, xlp, xst, xhi, xcx, xrs, xrk, xry, xro, xra, xrn, zr_ xan c 6, zr_L xaw c 6, xmk, xmf, xmt, xmy, xmg, xmc, xms, xpn)) : wpX_discardAnswers post (xlt, nI N, nI R, xrq, xwq, xpc, xls, xlc, nI K, xal, xrg, xkw, xac, xlv, xlp, xst, xhi, xcx, xrs, xrk, xry, xro, xra, xrn, xan, xaw, xmk, xmf, xmt, xmy, xmg, xmc, xms, xpn) (nI c) := by
  have a := x_disc_l hc h 6 0 0 rfl
  rw [zr_0, zr_0L, nI_0] at a
  exact ⟨_, a⟩
theorem x_open {post : SX → Prop} {c : Nat} {k y o m : Int32} (hc : c < 4) (h : post (xlt, nI N, nI R, xrq, xwq, xpc, xls, xlc, nI K, xal, xrg, xkw, xac, xlv, xlp, xst, xhi, xcx, upd xrs c 1, upd xrk c k, upd xry c y, upd xro c o, upd xra c 0, upd xrn c m, zr_ xan c 6, zr_L xaw c 6, xmk, xmf, xmt, xmy, xmg, xmc, xms, xpn)) : wpX_openRequest post (xlt, nI N, nI R, xrq, xwq, xpc, xls, xlc, nI K, xal, xrg, xkw, xac, xlv, xlp, xst, xhi, xcx, xrs, xrk, xry, xro, xra, xrn, xan, xaw, xmk, xmf, xmt, xmy, xmg, xmc, xms, xpn) (nI c) k y o m := by
  have i : vp_in (nI c) 4 := vp_in_nI hc (by decide)
  unfold wpX_openRequest
  dsimp only
  rw [nI_clamp (n := c) (by omega)]
  exact ⟨i, nm_e ⟨i, nm_e ⟨i, nm_e ⟨i, nm_e ⟨i, nm_e ⟨i, nm_e (x_disc hc h)⟩⟩⟩⟩⟩⟩
theorem x_send_l {post : Int32 → SX → Prop} {k f t y g c : Int32} {e : Int64} {s : Nat} (hs : s < 24) (hz : xmk s = 0) (hn : ∀ j, j < s → ¬ xmk j = 0) (h : post 1 (xlt, nI N, nI R, xrq, xwq, xpc, xls, xlc, nI K, xal, xrg, xkw, xac, xlv, xlp, xst, xhi, xcx, xrs, xrk, xry, xro, xra, xrn, xan, xaw, upd xmk s k, upd xmf s f, upd xmt s t, upd xmy s y, upd xmg s g, upd xmc s c, vp_updL xms s e, xpn)) : ∀ d i m, i + d = s → wX_send_3 post k f t y g c e xlt (nI N) (nI R) xrq xwq xpc xls xlc (nI K) xal xrg xkw xac xlv xlp xst xhi xcx xrs xrk xry xro xra xrn xan xaw xmk xmf xmt xmy xmg xmc xms xpn (m + d + 1) (nI i) := by
  intro d
  induction d with
  | zero =>
    intro i m q
    have e6 : i = s := by omega
    subst e6
    have v : vp_in (nI i) 24 := vp_in_nI hs (by decide)
    rw [wX_send_3]
    dsimp only
    rw [nI_clamp (n := i) (by omega)]
    exact br_f (nI_ge (b := 24) hs (by decide)) ⟨v, br_t hz ⟨v, nm_e ⟨v, nm_e ⟨v, nm_e ⟨v, nm_e ⟨v, nm_e ⟨v, nm_e ⟨v, nm_e h⟩⟩⟩⟩⟩⟩⟩⟩
  | succ d ih =>
    intro i m q
    have v : vp_in (nI i) 24 := vp_in_nI (by omega) (by decide)
    rw [wX_send_3]
    dsimp only
    rw [nI_clamp (n := i) (by omega)]
    exact br_f (nI_ge (b := 24) (by omega) (by decide)) ⟨v, br_f (hn i (by omega)) (nm_r (nI_1 i) (ih (i + 1) m (by omega)))⟩
theorem x_send_t {post : Int32 → SX → Prop} {k f t y g c : Int32} {e : Int64} {s : Nat} (hs : s < 24) (hz : xmk s = 0) (hn : ∀ j, j < s → ¬ xmk j = 0) (h : post 1 (xlt, nI N, nI R, xrq, xwq, xpc, xls, xlc, nI K, xal, xrg, xkw, xac, xlv, xlp, xst, xhi, xcx, xrs, xrk, xry, xro, xra, xrn, xan, xaw, upd xmk s k, upd xmf s f, upd xmt s t, upd xmy s y, upd xmg s g, upd xmc s c, vp_updL xms s e, xpn)) : wpX_send post (xlt, nI N, nI R, xrq, xwq, xpc, xls, xlc, nI K, xal, xrg, xkw, xac, xlv, xlp, xst, xhi, xcx, xrs, xrk, xry, xro, xra, xrn, xan, xaw, xmk, xmf, xmt, xmy, xmg, xmc, xms, xpn) k f t y g c e :=
  ⟨_, x_send_l hs hz hn h s 0 0 (by omega)⟩
theorem x_send_fl {post : Int32 → SX → Prop} {k f t y g c : Int32} {e : Int64} (hn : ∀ j, j < 24 → ¬ xmk j = 0) (h : post 0 (xlt, nI N, nI R, xrq, xwq, xpc, xls, xlc, nI K, xal, xrg, xkw, xac, xlv, xlp, xst, xhi, xcx, xrs, xrk, xry, xro, xra, xrn, xan, xaw, xmk, xmf, xmt, xmy, xmg, xmc, xms, xpn)) : ∀ d i m, i + d = 24 → wX_send_3 post k f t y g c e xlt (nI N) (nI R) xrq xwq xpc xls xlc (nI K) xal xrg xkw xac xlv xlp xst xhi xcx xrs xrk xry xro xra xrn xan xaw xmk xmf xmt xmy xmg xmc xms xpn (m + d + 1) (nI i) := by
  intro d
  induction d with
  | zero =>
    intro i m q
    have e6 : i = 24 := by omega
    subst e6
    exact br_t (nI_le (Nat.le_refl 24) (by decide)) h
  | succ d ih =>
    intro i m q
    have v : vp_in (nI i) 24 := vp_in_nI (by omega) (by decide)
    rw [wX_send_3]
    dsimp only
    rw [nI_clamp (n := i) (by omega)]
    exact br_f (nI_ge (b := 24) (by omega) (by decide)) ⟨v, br_f (hn i (by omega)) (nm_r (nI_1 i) (ih (i + 1) m (by omega)))⟩
theorem x_send_f {post : Int32 → SX → Prop} {k f t y g c : Int32} {e : Int64} (hn : ∀ j, j < 24 → ¬ xmk j = 0) (h : post 0 (xlt, nI N, nI R, xrq, xwq, xpc, xls, xlc, nI K, xal, xrg, xkw, xac, xlv, xlp, xst, xhi, xcx, xrs, xrk, xry, xro, xra, xrn, xan, xaw, xmk, xmf, xmt, xmy, xmg, xmc, xms, xpn)) : wpX_send post (xlt, nI N, nI R, xrq, xwq, xpc, xls, xlc, nI K, xal, xrg, xkw, xac, xlv, xlp, xst, xhi, xcx, xrs, xrk, xry, xro, xra, xrn, xan, xaw, xmk, xmf, xmt, xmy, xmg, xmc, xms, xpn) k f t y g c e :=
  ⟨_, x_send_fl hn h 24 0 0 (by omega)⟩
theorem x_outs_l {post : Int32 → Prop} {x : Int32} (h : post (nI (oc_ xmc x 24))) : ∀ d i m, i + d = 24 → wX_outstanding_4 post x xlt (nI N) (nI R) xrq xwq xpc xls xlc (nI K) xal xrg xkw xac xlv xlp xst xhi xcx xrs xrk xry xro xra xrn xan xaw xmk xmf xmt xmy xmg xmc xms xpn (m + d + 1) (nI (oc_ xmc x i)) (nI i) := by
  intro d
  induction d with
  | zero =>
    intro i m q
    have e6 : i = 24 := by omega
    subst e6
    exact br_t (nI_le (Nat.le_refl 24) (by decide)) h
  | succ d ih =>
    intro i m q
    have v : vp_in (nI i) 24 := vp_in_nI (by omega) (by decide)
    rw [wX_outstanding_4]
    dsimp only
    rw [nI_clamp (n := i) (by omega)]
    refine br_f (nI_ge (b := 24) (by omega) (by decide)) ⟨v, ?_⟩
    by_cases z : xmc i = x
    · exact br_t z (nm_r (oc_t z) (nm_r (nI_1 i) (ih (i + 1) m (by omega))))
    · refine br_f z (nm_r (nI_1 i) ?_)
      rw [oc_f z]
      exact ih (i + 1) m (by omega)
theorem x_outs {post : Int32 → Prop} {x : Int32} (h : post (nI (oc_ xmc x 24))) : wpX_outstanding post (xlt, nI N, nI R, xrq, xwq, xpc, xls, xlc, nI K, xal, xrg, xkw, xac, xlv, xlp, xst, xhi, xcx, xrs, xrk, xry, xro, xra, xrn, xan, xaw, xmk, xmf, xmt, xmy, xmg, xmc, xms, xpn) x :=
  ⟨_, x_outs_l h 24 0 0 (by omega)⟩
theorem x_cfree_l {post : Int32 → Prop} (h : post (nI (oc_ xmk 0 24))) : ∀ d i m, i + d = 24 → wX_countFree_4 post xlt (nI N) (nI R) xrq xwq xpc xls xlc (nI K) xal xrg xkw xac xlv xlp xst xhi xcx xrs xrk xry xro xra xrn xan xaw xmk xmf xmt xmy xmg xmc xms xpn (m + d + 1) (nI (oc_ xmk 0 i)) (nI i) := by
  intro d
  induction d with
  | zero =>
    intro i m q
    have e6 : i = 24 := by omega
    subst e6
    exact br_t (nI_le (Nat.le_refl 24) (by decide)) h
  | succ d ih =>
    intro i m q
    have v : vp_in (nI i) 24 := vp_in_nI (by omega) (by decide)
    rw [wX_countFree_4]
    dsimp only
    rw [nI_clamp (n := i) (by omega)]
    refine br_f (nI_ge (b := 24) (by omega) (by decide)) ⟨v, ?_⟩
    by_cases z : xmk i = 0
    · exact br_t z (nm_r (oc_t z) (nm_r (nI_1 i) (ih (i + 1) m (by omega))))
    · refine br_f z (nm_r (nI_1 i) ?_)
      rw [oc_f z]
      exact ih (i + 1) m (by omega)
theorem x_cfree {post : Int32 → Prop} (h : post (nI (oc_ xmk 0 24))) : wpX_countFree post (xlt, nI N, nI R, xrq, xwq, xpc, xls, xlc, nI K, xal, xrg, xkw, xac, xlv, xlp, xst, xhi, xcx, xrs, xrk, xry, xro, xra, xrn, xan, xaw, xmk, xmf, xmt, xmy, xmg, xmc, xms, xpn) :=
  ⟨_, x_cfree_l h 24 0 0 (by omega)⟩
theorem x_clr_l {post : SX → Prop} {c : Nat} {q : Int32} {m : Nat} (h : wX_closeRequest_9 post (nI c) q xlt (nI N) (nI R) xrq xwq xpc xls xlc (nI K) m (nI 24) xal xrg xkw xac xlv xlp xst xhi xcx xrs xrk xry xro xra xrn xan xaw xmk xmf xmt xmy xmg (cl_ xmc c 24) xms xpn) : ∀ d i, i + d = 24 → wX_closeRequest_9 post (nI c) q xlt (nI N) (nI R) xrq xwq xpc xls xlc (nI K) (m + d) (nI i) xal xrg xkw xac xlv xlp xst xhi xcx xrs xrk xry xro xra xrn xan xaw xmk xmf xmt xmy xmg (cl_ xmc c i) xms xpn := by
  intro d
  induction d with
  | zero =>
    intro i e
    have e6 : i = 24 := by omega
    subst e6
    exact h
  | succ d ih =>
    intro i e
    have v : vp_in (nI i) 24 := vp_in_nI (by omega) (by decide)
    show wX_closeRequest_9 post (nI c) q xlt (nI N) (nI R) xrq xwq xpc xls xlc (nI K) (m + d + 1) (nI i) xal xrg xkw xac xlv xlp xst xhi xcx xrs xrk xry xro xra xrn xan xaw xmk xmf xmt xmy xmg (cl_ xmc c i) xms xpn
    rw [wX_closeRequest_9]
    dsimp only
    rw [nI_clamp (n := i) (by omega), cl_i]
    refine br_f (nI_ge (b := 24) (by omega) (by decide)) ⟨v, ?_⟩
    by_cases z : xmc i = nI c
    · exact br_t z ⟨v, nm_r (cl_t z) (nm_r (nI_1 i) (ih (i + 1) (by omega)))⟩
    · refine br_f z (nm_r (nI_1 i) ?_)
      rw [cl_f z]
      exact ih (i + 1) (by omega)
theorem x_acc {post : Int32 → SX → Prop} {c y o m : Nat} {w : Int32} (hc : c < 4) (hy : y < 4) (ho : o < 6) (hm : m < 40) (ea : xac (y * 6 + o) = nI m) (h : post (nI (m + 1)) (xlt, nI N, nI R, xrq, xwq, xpc, xls, xlc, nI K, xal, xrg, upd xkw y (xkw y + 1), upd xac (y * 6 + o) (nI (m + 1)), upd xlv ((y * 6 + o) * 41 + (m + 1)) w, vp_updL xlp ((y * 6 + o) * 41 + (m + 1)) (jn_ (xlp ((y * 6 + o) * 41 + m)) (xcx (c * 4 + y))), vp_updL (vp_updL xst (o * 4 + y) (jn_ (xst (o * 4 + y)) (xcx (c * 4 + y)))) (o * 4 + y) (jn_ (vp_updL xst (o * 4 + y) (jn_ (xst (o * 4 + y)) (xcx (c * 4 + y))) (o * 4 + y)) ((nI (m + 1)).toInt64 <<< ((nI o * 8).toInt64 &&& 63))), xhi, xcx, xrs, xrk, xry, xro, xra, xrn, xan, xaw, xmk, xmf, xmt, xmy, xmg, xmc, xms, xpn)) : wpX_acceptWrite post (xlt, nI N, nI R, xrq, xwq, xpc, xls, xlc, nI K, xal, xrg, xkw, xac, xlv, xlp, xst, xhi, xcx, xrs, xrk, xry, xro, xra, xrn, xan, xaw, xmk, xmf, xmt, xmy, xmg, xmc, xms, xpn) (nI c) (nI y) (nI o) w := by
  have i1 : vp_in (nI (y * 6 + o)) 24 := vp_in_nI (by omega) (by decide)
  have i2 : vp_in (nI (c * 4 + y)) 16 := vp_in_nI (by omega) (by decide)
  have i3 : vp_in (nI y) 4 := vp_in_nI hy (by decide)
  have i4 : vp_in (nI ((y * 6 + o) * 41 + (m + 1))) 984 := vp_in_nI (by omega) (by decide)
  have i5 : vp_in (nI ((y * 6 + o) * 41 + m)) 984 := vp_in_nI (by omega) (by decide)
  have es : nI ((y * 6 + o) * 41 + (m + 1)) - 1 = nI ((y * 6 + o) * 41 + m) := nI_pred _
  unfold wpX_acceptWrite wpX_logAt
  dsimp only
  refine nm_r (ix_6 y o) ?_
  rw [nI_clamp (n := y * 6 + o) (by omega), ea, nI_1]
  refine ⟨i1, nm_e ?_⟩
  rw [ix_4, ix_g, es, nI_clamp (n := c * 4 + y) (by omega), nI_clamp (n := y) (by omega), nI_clamp (n := (y * 6 + o) * 41 + (m + 1)) (by omega), nI_clamp (n := (y * 6 + o) * 41 + m) (by omega)]
  exact ⟨i2, nm_e ⟨i1, nm_e ⟨i3, i3, nm_e ⟨i4, nm_e ⟨i5, x_join ⟨i4, nm_e (x_jst (by omega) (nm_e (x_jst (by omega) h)))⟩⟩⟩⟩⟩⟩
end
end
section
/-! the reference: one lemma a helper -/
theorem ix_40 (c i : Nat) : nI c * 40 + nI i = nI (c * 40 + i) := by rw [show (40 : Int32) = nI 40 from rfl, pk_mul, nI_add]
theorem ix_hr (a b c : Nat) : 24 + (nI a * 6 + nI b) * 4 + nI c = nI (24 + (a * 6 + b) * 4 + c) := by
  rw [ix_6, show (4 : Int32) = nI 4 from rfl, pk_mul, show (24 : Int32) = nI 24 from rfl, nI_add, nI_add]
theorem ix_a6 (x c n : Nat) : nI x + nI c * 6 + nI n = nI (x + c * 6 + n) := by
  rw [show (6 : Int32) = nI 6 from rfl, pk_mul, nI_add, nI_add]
theorem ix_a4 (x c n : Nat) : nI x + nI c * 4 + nI n = nI (x + c * 4 + n) := by
  rw [show (4 : Int32) = nI 4 from rfl, pk_mul, nI_add, nI_add]
theorem ix_a40 (x c n : Nat) : nI x + nI c * 40 + nI n = nI (x + c * 40 + n) := by
  rw [show (40 : Int32) = nI 40 from rfl, pk_mul, nI_add, nI_add]
theorem nb_v {v : Int32} (h : v = 0 ∨ v = 1) : vp_nar .boolean v = v := by rcases h with h | h <;> rw [h] <;> rfl
/-! rows of 40 -/
def wr_ (b : Nat → Int32) (r n : Nat) (f : Nat → Int32) : Nat → Int32 := fun j => if r * 40 ≤ j ∧ j < r * 40 + n then f (j - r * 40) else b j
def cp_ (b : Nat → Int32) (q r : Nat) : Nat → Int32 := wr_ b r 40 (fun t => b (q * 40 + t))
def jr_ (b : Nat → Int32) (q r : Nat) : Nat → Int32 := wr_ b r 40 (fun t => if b (q * 40 + t) = 0 then b (r * 40 + t) else 1)
section
variable {b : Nat → Int32} {q r i : Nat} {f : Nat → Int32} {x : Int32}
theorem wr_0 : wr_ b r 0 f = b := by
  funext j
  exact if_neg (by omega)
theorem wr_s (h : f i = x) : upd (wr_ b r i f) (r * 40 + i) x = wr_ b r (i + 1) f := by
  funext j
  simp only [upd, wr_]
  by_cases z : j = r * 40 + i
  · rw [if_pos z, if_pos (by omega), show j - r * 40 = i from by omega, h]
  · rw [if_neg z]
    by_cases y : r * 40 ≤ j ∧ j < r * 40 + i
    · rw [if_pos y, if_pos (by omega)]
    · rw [if_neg y, if_neg (by omega)]
theorem wr_k (h : f i = b (r * 40 + i)) : wr_ b r i f = wr_ b r (i + 1) f := by
  funext j
  simp only [wr_]
  by_cases y : r * 40 ≤ j ∧ j < r * 40 + i
  · rw [if_pos y, if_pos (by omega)]
  · rw [if_neg y]
    by_cases z : j = r * 40 + i
    · rw [if_pos (by omega), show j - r * 40 = i from by omega, h, z]
    · rw [if_neg (by omega)]
theorem wr_src (hi : i < 40) : wr_ b r i f (q * 40 + i) = b (q * 40 + i) := if_neg (by omega)
theorem wr_at (hi : i < 40) : wr_ b r 40 f (q * 40 + i) = if q = r then f i else b (q * 40 + i) := by
  unfold wr_
  by_cases z : q = r
  · subst z
    rw [if_pos (by omega), if_pos rfl, Nat.add_sub_cancel_left]
  · rw [if_neg (by omega), if_neg z]
theorem wr_n (hi : i < 40) (h : q ≠ r) : wr_ b r 40 f (q * 40 + i) = b (q * 40 + i) := by rw [wr_at hi, if_neg h]
theorem wr_y (hi : i < 40) : wr_ b r 40 f (r * 40 + i) = f i := by rw [wr_at hi, if_pos rfl]
theorem wr_01 (hb : ∀ j, b j = 0 ∨ b j = 1) (hf : ∀ j, j < 40 → f j = 0 ∨ f j = 1) : ∀ j, wr_ b r 40 f j = 0 ∨ wr_ b r 40 f j = 1 := by
  intro j
  unfold wr_
  split
  · exact hf _ (by omega)
  · exact hb j
theorem cp_01 (hb : ∀ j, b j = 0 ∨ b j = 1) : ∀ j, cp_ b q r j = 0 ∨ cp_ b q r j = 1 := wr_01 hb (fun j _ => hb _)
theorem jr_01 (hb : ∀ j, b j = 0 ∨ b j = 1) : ∀ j, jr_ b q r j = 0 ∨ jr_ b q r j = 1 := wr_01 hb (fun j _ => by
  show (if b (q * 40 + j) = 0 then b (r * 40 + j) else 1) = 0 ∨ (if b (q * 40 + j) = 0 then b (r * 40 + j) else 1) = 1
  split
  · exact hb _
  · exact Or.inr rfl)
end
section
variable {N R K : Nat} {xrq xwq : Int32} {ybi xkw ywn ywm ywv yal xrs xrk xry xro xra xrn xan xmk ymf ymt ymy ymg xmc yme yph ypn : Nat → Int32}
theorem y_out_t {post : Int32 → Prop} {c L : Nat} (hc : c < L) (hL : L < 2 ^ 31) (h : post 0) : wpY_out post (nI K, nI N, nI R, xrq, xwq, ybi, xkw, ywn, ywm, ywv, yal, xrs, xrk, xry, xro, xra, xrn, xan, xmk, ymf, ymt, ymy, ymg, xmc, yme, yph, ypn) (nI c) (nI L) :=
  br_f (nI_pos (by omega)) (br_t (nI_lt hc hL) h)
theorem y_out_f {post : Int32 → Prop} {x : Int32} {L : Nat} (hx : x < 0 ∨ nI L ≤ x) (h : post 1) : wpY_out post (nI K, nI N, nI R, xrq, xwq, ybi, xkw, ywn, ywm, ywv, yal, xrs, xrk, xry, xro, xra, xrn, xan, xmk, ymf, ymt, ymy, ymg, xmc, yme, yph, ypn) x (nI L) := by
  by_cases z : x < 0
  · exact br_t z h
  · rcases hx with y | y
    · exact absurd y z
    · exact br_f z (br_f (fun w => Int32.not_lt.mpr y w) h)
theorem y_copy_l {post : SY → Prop} {q r : Nat} (hq : q < 395) (hr : r < 395) (hb : ∀ j, ybi j = 0 ∨ ybi j = 1) (h : post (nI K, nI N, nI R, xrq, xwq, cp_ ybi (q) (r), xkw, ywn, ywm, ywv, yal, xrs, xrk, xry, xro, xra, xrn, xan, xmk, ymf, ymt, ymy, ymg, xmc, yme, yph, ypn)) : ∀ d i m, i + d = 40 → wY_copy_2 post (nI q) (nI r) (nI K) (nI N) (nI R) xrq xwq (m + d + 1) (nI i) (wr_ ybi r i (fun t => ybi (q * 40 + t))) xkw ywn ywm ywv yal xrs xrk xry xro xra xrn xan xmk ymf ymt ymy ymg xmc yme yph ypn := by
  intro d
  induction d with
  | zero =>
    intro i m e
    have e6 : i = 40 := by omega
    subst e6
    exact br_t (nI_le (Nat.le_refl 40) (by decide)) h
  | succ d ih =>
    intro i m e
    have v1 : vp_in (nI (q * 40 + i)) 15800 := vp_in_nI (by omega) (by decide)
    have v2 : vp_in (nI (r * 40 + i)) 15800 := vp_in_nI (by omega) (by decide)
    rw [wY_copy_2]
    dsimp only
    rw [ix_40 q i, ix_40 r i, nI_clamp (n := q * 40 + i) (by omega), nI_clamp (n := r * 40 + i) (by omega), wr_src (by omega), nb_v (hb _)]
    exact br_f (nI_ge (b := 40) (by omega) (by decide)) ⟨v1, v2, nm_r (wr_s rfl) (nm_r (nI_1 i) (ih (i + 1) m (by omega)))⟩
theorem y_copy {post : SY → Prop} {q r : Nat} (hq : q < 395) (hr : r < 395) (hb : ∀ j, ybi j = 0 ∨ ybi j = 1) (h : post (nI K, nI N, nI R, xrq, xwq, cp_ ybi (q) (r), xkw, ywn, ywm, ywv, yal, xrs, xrk, xry, xro, xra, xrn, xan, xmk, ymf, ymt, ymy, ymg, xmc, yme, yph, ypn)) : wpY_copy post (nI K, nI N, nI R, xrq, xwq, ybi, xkw, ywn, ywm, ywv, yal, xrs, xrk, xry, xro, xra, xrn, xan, xmk, ymf, ymt, ymy, ymg, xmc, yme, yph, ypn) (nI q) (nI r) := by
  have a := y_copy_l hq hr hb h 40 0 0 rfl
  rw [wr_0, nI_0] at a
  exact ⟨_, a⟩
theorem y_join_l {post : SY → Prop} {q r : Nat} (hq : q < 395) (hr : r < 395) (h : post (nI K, nI N, nI R, xrq, xwq, jr_ ybi (q) (r), xkw, ywn, ywm, ywv, yal, xrs, xrk, xry, xro, xra, xrn, xan, xmk, ymf, ymt, ymy, ymg, xmc, yme, yph, ypn)) : ∀ d i m, i + d = 40 → wY_join_2 post (nI q) (nI r) (nI K) (nI N) (nI R) xrq xwq (m + d + 1) (nI i) (wr_ ybi r i (fun t => if ybi (q * 40 + t) = 0 then ybi (r * 40 + t) else 1)) xkw ywn ywm ywv yal xrs xrk xry xro xra xrn xan xmk ymf ymt ymy ymg xmc yme yph ypn := by
  intro d
  induction d with
  | zero =>
    intro i m e
    have e6 : i = 40 := by omega
    subst e6
    exact br_t (nI_le (Nat.le_refl 40) (by decide)) h
  | succ d ih =>
    intro i m e
    have v1 : vp_in (nI (q * 40 + i)) 15800 := vp_in_nI (by omega) (by decide)
    have v2 : vp_in (nI (r * 40 + i)) 15800 := vp_in_nI (by omega) (by decide)
    rw [wY_join_2]
    dsimp only
    rw [ix_40 q i, ix_40 r i, nI_clamp (n := q * 40 + i) (by omega), nI_clamp (n := r * 40 + i) (by omega), wr_src (by omega)]
    refine br_f (nI_ge (b := 40) (by omega) (by decide)) ⟨v1, ?_⟩
    by_cases z : ybi (q * 40 + i) = 0
    · refine br_t z (nm_r (nI_1 i) ?_)
      rw [wr_k (f := fun t => if ybi (q * 40 + t) = 0 then ybi (r * 40 + t) else 1) (if_pos z)]
      exact ih (i + 1) m (by omega)
    · exact br_f z ⟨v2, nm_r (wr_s (f := fun t => if ybi (q * 40 + t) = 0 then ybi (r * 40 + t) else 1) (if_neg z)) (nm_r (nI_1 i) (ih (i + 1) m (by omega)))⟩
theorem y_join {post : SY → Prop} {q r : Nat} (hq : q < 395) (hr : r < 395) (h : post (nI K, nI N, nI R, xrq, xwq, jr_ ybi (q) (r), xkw, ywn, ywm, ywv, yal, xrs, xrk, xry, xro, xra, xrn, xan, xmk, ymf, ymt, ymy, ymg, xmc, yme, yph, ypn)) : wpY_join post (nI K, nI N, nI R, xrq, xwq, ybi, xkw, ywn, ywm, ywv, yal, xrs, xrk, xry, xro, xra, xrn, xan, xmk, ymf, ymt, ymy, ymg, xmc, yme, yph, ypn) (nI q) (nI r) := by
  have a := y_join_l hq hr h 40 0 0 rfl
  rw [wr_0, nI_0] at a
  exact ⟨_, a⟩
theorem y_sub_l {post : Int32 → Prop} {q r : Nat} (hq : q < 395) (hr : r < 395) (h1 : (∀ t, t < 40 → ¬ ybi (q * 40 + t) = 0 → ¬ ybi (r * 40 + t) = 0) → post 1) (h0 : ¬ (∀ t, t < 40 → ¬ ybi (q * 40 + t) = 0 → ¬ ybi (r * 40 + t) = 0) → post 0) : ∀ d i m, i + d = 40 → (∀ t, t < i → ¬ ybi (q * 40 + t) = 0 → ¬ ybi (r * 40 + t) = 0) → wY_subset_2 post (nI q) (nI r) (nI K) (nI N) (nI R) xrq xwq ybi xkw ywn ywm ywv yal xrs xrk xry xro xra xrn xan xmk ymf ymt ymy ymg xmc yme yph ypn (m + d + 1) (nI i) := by
  intro d
  induction d with
  | zero =>
    intro i m e a
    have e6 : i = 40 := by omega
    subst e6
    exact br_t (nI_le (Nat.le_refl 40) (by decide)) (h1 a)
  | succ d ih =>
    intro i m e a
    have v1 : vp_in (nI (q * 40 + i)) 15800 := vp_in_nI (by omega) (by decide)
    have v2 : vp_in (nI (r * 40 + i)) 15800 := vp_in_nI (by omega) (by decide)
    rw [wY_subset_2]
    dsimp only
    rw [ix_40 q i, ix_40 r i, nI_clamp (n := q * 40 + i) (by omega), nI_clamp (n := r * 40 + i) (by omega)]
    refine br_f (nI_ge (b := 40) (by omega) (by decide)) ⟨v1, ?_⟩
    by_cases z : ybi (q * 40 + i) = 0
    · exact br_t z (nm_r (nI_1 i) (ih (i + 1) m (by omega) (lt_s a (fun w => absurd z w))))
    · refine br_f z ⟨v2, ?_⟩
      by_cases w : ybi (r * 40 + i) = 0
      · exact br_t w (h0 (fun all => all i (by omega) z w))
      · exact br_f w (nm_r (nI_1 i) (ih (i + 1) m (by omega) (lt_s a (fun _ => w))))
theorem y_sub {post : Int32 → Prop} {q r : Nat} (hq : q < 395) (hr : r < 395) (h1 : (∀ t, t < 40 → ¬ ybi (q * 40 + t) = 0 → ¬ ybi (r * 40 + t) = 0) → post 1) (h0 : ¬ (∀ t, t < 40 → ¬ ybi (q * 40 + t) = 0 → ¬ ybi (r * 40 + t) = 0) → post 0) : wpY_subset post (nI K, nI N, nI R, xrq, xwq, ybi, xkw, ywn, ywm, ywv, yal, xrs, xrk, xry, xro, xra, xrn, xan, xmk, ymf, ymt, ymy, ymg, xmc, yme, yph, ypn) (nI q) (nI r) :=
  ⟨_, y_sub_l hq hr h1 h0 40 0 0 rfl lt_0⟩
theorem y_same {post : Int32 → Prop} {q r : Nat} (hq : q < 395) (hr : r < 395) (h1 : (∀ t, t < 40 → (¬ ybi (q * 40 + t) = 0 ↔ ¬ ybi (r * 40 + t) = 0)) → post 1) (h0 : ¬ (∀ t, t < 40 → (¬ ybi (q * 40 + t) = 0 ↔ ¬ ybi (r * 40 + t) = 0)) → post 0) : wpY_same post (nI K, nI N, nI R, xrq, xwq, ybi, xkw, ywn, ywm, ywv, yal, xrs, xrk, xry, xro, xra, xrn, xan, xmk, ymf, ymt, ymy, ymg, xmc, yme, yph, ypn) (nI q) (nI r) := by
  unfold wpY_same
  dsimp only
  refine y_sub hq hr (fun a => br_f (by decide) ?_) (fun a => br_t rfl (h0 (fun w => a (fun t ht => (w t ht).mp))))
  exact y_sub hr hq (fun c => br_f (by decide) (h1 (fun t ht => ⟨a t ht, c t ht⟩))) (fun c => br_t rfl (h0 (fun w => c (fun t ht => (w t ht).mpr))))
theorem y_hrow {post : Int32 → Prop} {a t y : Nat} (h : post (nI (24 + (a * 6 + t) * 4 + y))) : wpY_hintRow post (nI K, nI N, nI R, xrq, xwq, ybi, xkw, ywn, ywm, ywv, yal, xrs, xrk, xry, xro, xra, xrn, xan, xmk, ymf, ymt, ymy, ymg, xmc, yme, yph, ypn) (nI a) (nI t) (nI y) := by
  unfold wpY_hintRow
  dsimp only
  rw [ix_hr]
  exact h
theorem y_begin {post : SY → Prop} {c : Nat} {k y o m : Int32} (hc : c < 4) (h : post (nI K, nI N, nI R, xrq, xwq, ybi, xkw, ywn, ywm, ywv, yal, upd xrs c 1, upd xrk c k, upd xry c y, upd xro c o, upd xra c 0, upd xrn c m, xan, xmk, ymf, ymt, ymy, ymg, xmc, yme, yph, ypn)) : wpY_begin post (nI K, nI N, nI R, xrq, xwq, ybi, xkw, ywn, ywm, ywv, yal, xrs, xrk, xry, xro, xra, xrn, xan, xmk, ymf, ymt, ymy, ymg, xmc, yme, yph, ypn) (nI c) k y o m := by
  have i : vp_in (nI c) 4 := vp_in_nI hc (by decide)
  unfold wpY_begin
  dsimp only
  rw [nI_clamp (n := c) (by omega)]
  exact ⟨i, nm_e ⟨i, nm_e ⟨i, nm_e ⟨i, nm_e ⟨i, nm_e ⟨i, nm_e h⟩⟩⟩⟩⟩⟩
theorem y_bec {post : SY → Prop} {s : Nat} {k : Int32} (hs : s < 24) (h : post (nI K, nI N, nI R, xrq, xwq, ybi, xkw, ywn, ywm, ywv, yal, xrs, xrk, xry, xro, xra, xrn, xan, upd xmk s k, upd ymf s (ymt s), upd ymt s (ymf s), ymy, ymg, xmc, yme, yph, ypn)) : wpY_become post (nI K, nI N, nI R, xrq, xwq, ybi, xkw, ywn, ywm, ywv, yal, xrs, xrk, xry, xro, xra, xrn, xan, xmk, ymf, ymt, ymy, ymg, xmc, yme, yph, ypn) (nI s) k := by
  have i : vp_in (nI s) 24 := vp_in_nI hs (by decide)
  unfold wpY_become
  dsimp only
  rw [nI_clamp (n := s) (by omega)]
  exact ⟨i, nm_e ⟨i, nm_e ⟨i, i, nm_e ⟨i, nm_e h⟩⟩⟩⟩
theorem y_rel {post : SY → Prop} {s : Nat} (hs : s < 24) (h : post (nI K, nI N, nI R, xrq, xwq, ybi, xkw, ywn, ywm, ywv, yal, xrs, xrk, xry, xro, xra, xrn, xan, upd xmk s 0, ymf, ymt, ymy, ymg, upd xmc s (-1), yme, yph, ypn)) : wpY_release post (nI K, nI N, nI R, xrq, xwq, ybi, xkw, ywn, ywm, ywv, yal, xrs, xrk, xry, xro, xra, xrn, xan, xmk, ymf, ymt, ymy, ymg, xmc, yme, yph, ypn) (nI s) := by
  have i : vp_in (nI s) 24 := vp_in_nI hs (by decide)
  unfold wpY_release
  dsimp only
  rw [nI_clamp (n := s) (by omega)]
  exact ⟨i, nm_e ⟨i, nm_e h⟩⟩
theorem y_send_l {post : Int32 → SY → Prop} {k f t y g c : Int32} {r : Nat} {s : Nat} (hr : r < 395) (hb : ∀ j, ybi j = 0 ∨ ybi j = 1) (hs : s < 24) (hz : xmk s = 0) (hn : ∀ j, j < s → ¬ xmk j = 0) (h : post 1 (nI K, nI N, nI R, xrq, xwq, cp_ ybi (r) (184 + s), xkw, ywn, ywm, ywv, yal, xrs, xrk, xry, xro, xra, xrn, xan, upd xmk s k, upd ymf s f, upd ymt s t, upd ymy s y, upd ymg s g, upd xmc s c, yme, yph, ypn)) : ∀ d i m, i + d = s → wY_send_3 post k f t y g c (nI r) (nI K) (nI N) (nI R) xrq xwq ybi xkw ywn ywm ywv yal xrs xrk xry xro xra xrn xan xmk ymf ymt ymy ymg xmc yme yph ypn (m + d + 1) (nI i) := by
  intro d
  induction d with
  | zero =>
    intro i m q
    have e6 : i = s := by omega
    subst e6
    have v : vp_in (nI i) 24 := vp_in_nI hs (by decide)
    have e2 : 184 + nI i = nI (184 + i) := nI_add 184 i
    rw [wY_send_3]
    dsimp only
    rw [nI_clamp (n := i) (by omega), e2]
    exact br_f (nI_ge (b := 24) hs (by decide)) ⟨v, br_t hz ⟨v, nm_e ⟨v, nm_e ⟨v, nm_e ⟨v, nm_e ⟨v, nm_e ⟨v, nm_e (y_copy hr (by omega) hb h)⟩⟩⟩⟩⟩⟩⟩
  | succ d ih =>
    intro i m q
    have v : vp_in (nI i) 24 := vp_in_nI (by omega) (by decide)
    rw [wY_send_3]
    dsimp only
    rw [nI_clamp (n := i) (by omega)]
    exact br_f (nI_ge (b := 24) (by omega) (by decide)) ⟨v, br_f (hn i (by omega)) (nm_r (nI_1 i) (ih (i + 1) m (by omega)))⟩
theorem y_send_t {post : Int32 → SY → Prop} {k f t y g c : Int32} {r : Nat} {s : Nat} (hr : r < 395) (hb : ∀ j, ybi j = 0 ∨ ybi j = 1) (hs : s < 24) (hz : xmk s = 0) (hn : ∀ j, j < s → ¬ xmk j = 0) (h : post 1 (nI K, nI N, nI R, xrq, xwq, cp_ ybi (r) (184 + s), xkw, ywn, ywm, ywv, yal, xrs, xrk, xry, xro, xra, xrn, xan, upd xmk s k, upd ymf s f, upd ymt s t, upd ymy s y, upd ymg s g, upd xmc s c, yme, yph, ypn)) : wpY_send post (nI K, nI N, nI R, xrq, xwq, ybi, xkw, ywn, ywm, ywv, yal, xrs, xrk, xry, xro, xra, xrn, xan, xmk, ymf, ymt, ymy, ymg, xmc, yme, yph, ypn) k f t y g c (nI r) :=
  ⟨_, y_send_l hr hb hs hz hn h s 0 0 (by omega)⟩
theorem y_send_fl {post : Int32 → SY → Prop} {k f t y g c e : Int32} (hn : ∀ j, j < 24 → ¬ xmk j = 0) (h : post 0 (nI K, nI N, nI R, xrq, xwq, ybi, xkw, ywn, ywm, ywv, yal, xrs, xrk, xry, xro, xra, xrn, xan, xmk, ymf, ymt, ymy, ymg, xmc, yme, yph, ypn)) : ∀ d i m, i + d = 24 → wY_send_3 post k f t y g c e (nI K) (nI N) (nI R) xrq xwq ybi xkw ywn ywm ywv yal xrs xrk xry xro xra xrn xan xmk ymf ymt ymy ymg xmc yme yph ypn (m + d + 1) (nI i) := by
  intro d
  induction d with
  | zero =>
    intro i m q
    have e6 : i = 24 := by omega
    subst e6
    exact br_t (nI_le (Nat.le_refl 24) (by decide)) h
  | succ d ih =>
    intro i m q
    have v : vp_in (nI i) 24 := vp_in_nI (by omega) (by decide)
    rw [wY_send_3]
    dsimp only
    rw [nI_clamp (n := i) (by omega)]
    exact br_f (nI_ge (b := 24) (by omega) (by decide)) ⟨v, br_f (hn i (by omega)) (nm_r (nI_1 i) (ih (i + 1) m (by omega)))⟩
theorem y_send_f {post : Int32 → SY → Prop} {k f t y g c e : Int32} (hn : ∀ j, j < 24 → ¬ xmk j = 0) (h : post 0 (nI K, nI N, nI R, xrq, xwq, ybi, xkw, ywn, ywm, ywv, yal, xrs, xrk, xry, xro, xra, xrn, xan, xmk, ymf, ymt, ymy, ymg, xmc, yme, yph, ypn)) : wpY_send post (nI K, nI N, nI R, xrq, xwq, ybi, xkw, ywn, ywm, ywv, yal, xrs, xrk, xry, xro, xra, xrn, xan, xmk, ymf, ymt, ymy, ymg, xmc, yme, yph, ypn) k f t y g c e :=
  ⟨_, y_send_fl hn h 24 0 0 (by omega)⟩
theorem y_outs_l {post : Int32 → Prop} {x : Int32} (hf : ∀ j, j < 24 → xmk j = 0 → ¬ xmc j = x) (h : post (nI (oc_ xmc x 24))) : ∀ d i m, i + d = 24 → wY_outstanding_4 post x (nI K) (nI N) (nI R) xrq xwq ybi xkw ywn ywm ywv yal xrs xrk xry xro xra xrn xan xmk ymf ymt ymy ymg xmc yme yph ypn (m + d + 1) (nI (oc_ xmc x i)) (nI i) := by
  intro d
  induction d with
  | zero =>
    intro i m q
    have e6 : i = 24 := by omega
    subst e6
    exact br_t (nI_le (Nat.le_refl 24) (by decide)) h
  | succ d ih =>
    intro i m q
    have v : vp_in (nI i) 24 := vp_in_nI (by omega) (by decide)
    rw [wY_outstanding_4]
    dsimp only
    rw [nI_clamp (n := i) (by omega)]
    refine br_f (nI_ge (b := 24) (by omega) (by decide)) ⟨v, ?_⟩
    by_cases z0 : xmk i = 0
    · refine br_t z0 (nm_r (nI_1 i) ?_)
      rw [oc_f (hf i (by omega) z0)]
      exact ih (i + 1) m (by omega)
    · refine br_f z0 ⟨v, ?_⟩
      by_cases z : xmc i = x
      · exact br_t z (nm_r (oc_t z) (nm_r (nI_1 i) (ih (i + 1) m (by omega))))
      · refine br_f z (nm_r (nI_1 i) ?_)
        rw [oc_f z]
        exact ih (i + 1) m (by omega)
theorem y_outs {post : Int32 → Prop} {x : Int32} (hf : ∀ j, j < 24 → xmk j = 0 → ¬ xmc j = x) (h : post (nI (oc_ xmc x 24))) : wpY_outstanding post (nI K, nI N, nI R, xrq, xwq, ybi, xkw, ywn, ywm, ywv, yal, xrs, xrk, xry, xro, xra, xrn, xan, xmk, ymf, ymt, ymy, ymg, xmc, yme, yph, ypn) x :=
  ⟨_, y_outs_l hf h 24 0 0 (by omega)⟩
theorem y_take {post : SY → Prop} {c n r : Nat} (hc : c < 4) (hn : n < 6) (hr : r < 395) (hb : ∀ j, ybi j = 0 ∨ ybi j = 1) (h : post (nI K, nI N, nI R, xrq, xwq, cp_ ybi (r) (208 + c * 6 + n), xkw, ywn, ywm, ywv, yal, xrs, xrk, xry, xro, upd xra c (xra c + 1), xrn, upd xan (c * 6 + n) 1, xmk, ymf, ymt, ymy, ymg, xmc, yme, yph, ypn)) : wpY_takeAnswer post (nI K, nI N, nI R, xrq, xwq, ybi, xkw, ywn, ywm, ywv, yal, xrs, xrk, xry, xro, xra, xrn, xan, xmk, ymf, ymt, ymy, ymg, xmc, yme, yph, ypn) (nI c) (nI n) (nI r) := by
  have i1 : vp_in (nI (c * 6 + n)) 24 := vp_in_nI (by omega) (by decide)
  have i2 : vp_in (nI c) 4 := vp_in_nI hc (by decide)
  have e2 : 208 + nI c * 6 + nI n = nI (208 + c * 6 + n) := ix_a6 208 c n
  unfold wpY_takeAnswer
  dsimp only
  rw [e2]
  refine y_copy hr (by omega) hb ?_
  dsimp only
  rw [ix_6, nI_clamp (n := c * 6 + n) (by omega), nI_clamp (n := c) (by omega), nb_1]
  exact ⟨i1, nm_e ⟨i2, i2, nm_e h⟩⟩
theorem y_clr_l {post : SY → Prop} {c : Nat} {q : Int32} {m : Nat} (h : wY_close_9 post (nI c) q (nI K) (nI N) (nI R) xrq xwq m (nI 24) ybi xkw ywn ywm ywv yal xrs xrk xry xro xra xrn xan xmk ymf ymt ymy ymg (cl_ xmc c 24) yme yph ypn) : ∀ d i, i + d = 24 → wY_close_9 post (nI c) q (nI K) (nI N) (nI R) xrq xwq (m + d) (nI i) ybi xkw ywn ywm ywv yal xrs xrk xry xro xra xrn xan xmk ymf ymt ymy ymg (cl_ xmc c i) yme yph ypn := by
  intro d
  induction d with
  | zero =>
    intro i e
    have e6 : i = 24 := by omega
    subst e6
    exact h
  | succ d ih =>
    intro i e
    have v : vp_in (nI i) 24 := vp_in_nI (by omega) (by decide)
    show wY_close_9 post (nI c) q (nI K) (nI N) (nI R) xrq xwq (m + d + 1) (nI i) ybi xkw ywn ywm ywv yal xrs xrk xry xro xra xrn xan xmk ymf ymt ymy ymg (cl_ xmc c i) yme yph ypn
    rw [wY_close_9]
    dsimp only
    rw [nI_clamp (n := i) (by omega), cl_i]
    refine br_f (nI_ge (b := 24) (by omega) (by decide)) ⟨v, ?_⟩
    by_cases z : xmc i = nI c
    · exact br_t z ⟨v, nm_r (cl_t z) (nm_r (nI_1 i) (ih (i + 1) (by omega)))⟩
    · refine br_f z (nm_r (nI_1 i) ?_)
      rw [cl_f z]
      exact ih (i + 1) (by omega)
theorem y_dis_l {post : SY → Prop} {c : Nat} (hc : c < 4) (h : post (nI K, nI N, nI R, xrq, xwq, ybi, xkw, ywn, ywm, ywv, yal, xrs, xrk, xry, xro, xra, xrn, zr_ xan c 6, xmk, ymf, ymt, ymy, ymg, xmc, yme, yph, ypn)) : ∀ d i m, i + d = 6 → wY_close_60 post (nI c) (nI K) (nI N) (nI R) xrq xwq (m + d + 1) (nI i) ybi xkw ywn ywm ywv yal xrs xrk xry xro xra xrn (zr_ xan c i) xmk ymf ymt ymy ymg xmc yme yph ypn := by
  intro d
  induction d with
  | zero =>
    intro i m e
    have e6 : i = 6 := by omega
    subst e6
    exact br_t (nI_le (Nat.le_refl 6) (by decide)) h
  | succ d ih =>
    intro i m e
    have v : vp_in (nI (c * 6 + i)) 24 := vp_in_nI (by omega) (by decide)
    rw [wY_close_60]
    dsimp only
    rw [ix_6, nI_clamp (n := c * 6 + i) (by omega)]
    exact br_f (nI_ge (b := 6) (by omega) (by decide)) ⟨v, nm_r (zr_s xan c i) (nm_r (nI_1 i) (ih (i + 1) m (by omega)))⟩
theorem y_dis {post : SY → Prop} {c : Nat} (hc : c < 4) (h : post (nI K, nI N, nI R, xrq, xwq, ybi, xkw, ywn, ywm, ywv, yal, xrs, xrk, xry, xro, xra, xrn, zr_ xan c 6, xmk, ymf, ymt, ymy, ymg, xmc, yme, yph, ypn)) : ∃ n60 : Nat, wY_close_60 post (nI c) (nI K) (nI N) (nI R) xrq xwq n60 0 ybi xkw ywn ywm ywv yal xrs xrk xry xro xra xrn xan xmk ymf ymt ymy ymg xmc yme yph ypn := by
  have a := y_dis_l hc h 6 0 0 rfl
  rw [zr_0, nI_0] at a
  exact ⟨_, a⟩
end
end
section
/-! the ring: the list of the nodes as they are met -/
def od_h (k s n : Nat) : Prop := (n * 11 + 3) % 64 = (k * 19 + 9 + s) % 64 ∨ (n * 23 + 40) % 64 = (k * 19 + 9 + s) % 64
def od_hb (k s n : Nat) : Bool := (n * 11 + 3) % 64 == (k * 19 + 9 + s) % 64 || (n * 23 + 40) % 64 == (k * 19 + 9 + s) % 64
theorem od_hb_iff (k s n : Nat) : od_hb k s n = true ↔ od_h k s n := by
  unfold od_hb od_h
  simp
def od_in (k s : Nat) (l : List Nat) : Nat → List Nat
  | 0 => l
  | m + 1 => if od_hb k s m = true ∧ m ∉ od_in k s l m then od_in k s l m ++ [m] else od_in k s l m
def od_st (N k : Nat) : Nat → List Nat
  | 0 => []
  | s + 1 => od_in k s (od_st N k s) N
def od_l (N k : Nat) : List Nat := od_st N k 64
def od_ (N k p : Nat) : Nat := (od_l N k).getD p 0
theorem od_tab3 : ∀ k, k < 4 → (od_l 3 k).length = 3 ∧ (od_l 3 k).Nodup ∧ ∀ n ∈ od_l 3 k, n < 3 := by decide +kernel
theorem od_tab4 : ∀ k, k < 4 → (od_l 4 k).length = 4 ∧ (od_l 4 k).Nodup ∧ ∀ n ∈ od_l 4 k, n < 4 := by decide +kernel
theorem od_tab5 : ∀ k, k < 4 → (od_l 5 k).length = 5 ∧ (od_l 5 k).Nodup ∧ ∀ n ∈ od_l 5 k, n < 5 := by decide +kernel
theorem od_tab6 : ∀ k, k < 4 → (od_l 6 k).length = 6 ∧ (od_l 6 k).Nodup ∧ ∀ n ∈ od_l 6 k, n < 6 := by decide +kernel
theorem od_tab {N k : Nat} (h3 : 3 ≤ N) (h6 : N ≤ 6) (hk : k < 4) : (od_l N k).length = N ∧ (od_l N k).Nodup ∧ ∀ n ∈ od_l N k, n < N := by
  have c : N = 3 ∨ N = 4 ∨ N = 5 ∨ N = 6 := by omega
  rcases c with rfl | rfl | rfl | rfl
  · exact od_tab3 k hk
  · exact od_tab4 k hk
  · exact od_tab5 k hk
  · exact od_tab6 k hk
theorem od_get {N k p : Nat} (h : p < (od_l N k).length) : od_ N k p = (od_l N k)[p] := by
  unfold od_
  rw [List.getD_eq_getElem?_getD, List.getElem?_eq_getElem h]
  rfl
theorem od_lt {N k p : Nat} (h3 : 3 ≤ N) (h6 : N ≤ 6) (hk : k < 4) (hp : p < N) : od_ N k p < N := by
  have t := od_tab h3 h6 hk
  rw [od_get (by omega)]
  exact t.2.2 _ (List.getElem_mem _)
theorem od_inj {N k p q : Nat} (h3 : 3 ≤ N) (h6 : N ≤ 6) (hk : k < 4) (hp : p < N) (hq : q < N) (e : od_ N k p = od_ N k q) : p = q := by
  have t := od_tab h3 h6 hk
  rw [od_get (by omega), od_get (by omega)] at e
  refine (List.getElem?_inj (l := od_l N k) (i := p) (j := q) (by omega) t.2.1).mp ?_
  rw [List.getElem?_eq_getElem (by omega), List.getElem?_eq_getElem (by omega), e]
theorem od_ext_in (k s : Nat) (l : List Nat) : ∀ m, ∃ r, od_in k s l m = l ++ r
  | 0 => ⟨[], (List.append_nil l).symm⟩
  | m + 1 => by
    obtain ⟨r, e⟩ := od_ext_in k s l m
    by_cases z : od_hb k s m = true ∧ m ∉ od_in k s l m
    · refine ⟨r ++ [m], ?_⟩
      simp only [od_in]
      rw [if_pos z, e, List.append_assoc]
    · refine ⟨r, ?_⟩
      simp only [od_in]
      rw [if_neg z, e]
theorem od_mono_in (k s : Nat) (l : List Nat) {m : Nat} : ∀ {M : Nat}, m ≤ M → ∃ r, od_in k s l M = od_in k s l m ++ r
  | 0, h => by
    have e : m = 0 := by omega
    subst e
    exact ⟨[], (List.append_nil _).symm⟩
  | M + 1, h => by
    rcases Nat.lt_or_ge m (M + 1) with z | z
    · obtain ⟨r, e⟩ := od_mono_in k s l (m := m) (M := M) (by omega)
      by_cases y : od_hb k s M = true ∧ M ∉ od_in k s l M
      · refine ⟨r ++ [M], ?_⟩
        have q : od_in k s l (M + 1) = od_in k s l M ++ [M] := by simp only [od_in]; rw [if_pos y]
        rw [q, e, List.append_assoc]
      · refine ⟨r, ?_⟩
        have q : od_in k s l (M + 1) = od_in k s l M := by simp only [od_in]; rw [if_neg y]
        rw [q, e]
    · have e : m = M + 1 := by omega
      subst e
      exact ⟨[], (List.append_nil _).symm⟩
theorem od_mono_st (N k : Nat) {s : Nat} : ∀ {T : Nat}, s ≤ T → ∃ r, od_st N k T = od_st N k s ++ r
  | 0, h => by
    have e : s = 0 := by omega
    subst e
    exact ⟨[], rfl⟩
  | T + 1, h => by
    rcases Nat.lt_or_ge s (T + 1) with z | z
    · obtain ⟨r, e⟩ := od_mono_st N k (s := s) (T := T) (by omega)
      obtain ⟨r2, e2⟩ := od_ext_in k T (od_st N k T) N
      refine ⟨r ++ r2, ?_⟩
      show od_in k T (od_st N k T) N = _
      rw [e2, e, List.append_assoc]
    · have e : s = T + 1 := by omega
      subst e
      exact ⟨[], (List.append_nil _).symm⟩
/-- what is met at step s before node m is a beginning of the whole list -/
theorem od_pre {N k s m : Nat} (hs : s < 64) (hm : m ≤ N) : ∃ r, od_l N k = od_in k s (od_st N k s) m ++ r := by
  obtain ⟨r, e⟩ := od_mono_in k s (od_st N k s) hm
  obtain ⟨r2, e2⟩ := od_mono_st N k (s := s + 1) (T := 64) (by omega)
  refine ⟨r ++ r2, ?_⟩
  show od_st N k 64 = _
  rw [e2]
  show od_in k s (od_st N k s) N ++ r2 = _
  rw [e, List.append_assoc]
theorem od_in_t {k s m : Nat} {l : List Nat} (h : od_hb k s m = true) (h2 : m ∉ od_in k s l m) : od_in k s l (m + 1) = od_in k s l m ++ [m] := by
  simp only [od_in]
  rw [if_pos ⟨h, h2⟩]
theorem od_in_m {k s m : Nat} {l : List Nat} (h2 : m ∈ od_in k s l m) : od_in k s l (m + 1) = od_in k s l m := by
  simp only [od_in]
  rw [if_neg (fun w => w.2 h2)]
theorem od_in_f {k s m : Nat} {l : List Nat} (h : ¬ od_hb k s m = true) : od_in k s l (m + 1) = od_in k s l m := by
  simp only [od_in]
  rw [if_neg (fun w => h w.1)]
/-- node m met at place p = length: it is the p-th of the whole list -/
theorem od_at {N k s m : Nat} (hs : s < 64) (hm : m < N) (h : od_hb k s m = true) (h2 : m ∉ od_in k s (od_st N k s) m) : od_ N k (od_in k s (od_st N k s) m).length = m := by
  obtain ⟨r, e⟩ := od_pre (N := N) (k := k) hs (m := m + 1) (by omega)
  rw [od_in_t h h2] at e
  unfold od_
  rw [e]
  simp
theorem od_all {N k s m : Nat} (hs : s < 64) (hm : m ≤ N) (h3 : 3 ≤ N) (h6 : N ≤ 6) (hk : k < 4) : (od_in k s (od_st N k s) m).length ≤ N := by
  obtain ⟨r, e⟩ := od_pre (N := N) (k := k) hs hm
  have t := (od_tab h3 h6 hk).1
  rw [e, List.length_append] at t
  omega
theorem od_get_in {N k s m p : Nat} (hs : s < 64) (hm : m ≤ N) (hp : p < (od_in k s (od_st N k s) m).length) : (od_in k s (od_st N k s) m).getD p 0 = od_ N k p := by
  obtain ⟨r, e⟩ := od_pre (N := N) (k := k) hs hm
  unfold od_
  rw [e, List.getD_eq_getElem?_getD, List.getD_eq_getElem?_getD, List.getElem?_append_left hp]
/-! the point, as ints -/
theorem pt_63 (a : Nat) (h : a < 2 ^ 32) : nI a &&& 63 = nI (a % 64) := pk_andN h (m := 63) 6 (by decide)
theorem pt_n (n : Nat) (h : n < 64) : (nI n * 11 + 3) &&& 63 = nI ((n * 11 + 3) % 64) := by
  rw [show (11 : Int32) = nI 11 from rfl, pk_mul, show (3 : Int32) = nI 3 from rfl, nI_add]
  exact pt_63 _ (by omega)
theorem pt_m (n : Nat) (h : n < 64) : (nI n * 23 + 40) &&& 63 = nI ((n * 23 + 40) % 64) := by
  rw [show (23 : Int32) = nI 23 from rfl, pk_mul, show (40 : Int32) = nI 40 from rfl, nI_add]
  exact pt_63 _ (by omega)
theorem pt_k (k s : Nat) (h : k < 64) (hs : s < 128) : (nI k * 19 + 9 + nI s) &&& 63 = nI ((k * 19 + 9 + s) % 64) := by
  rw [show (19 : Int32) = nI 19 from rfl, pk_mul, show (9 : Int32) = nI 9 from rfl, nI_add, nI_add]
  exact pt_63 _ (by omega)
theorem pt_eq {a b : Nat} : nI (a % 64) = nI (b % 64) ↔ a % 64 = b % 64 := nI_eq (by omega) (by omega)
end
section
/-! the two walks round the ring -/
theorem or_and0 (x y z : Int32) : (x ||| y) &&& z = 0 ↔ x &&& z = 0 ∧ y &&& z = 0 := by
  constructor
  · intro h
    have hb : ∀ i, bt ((x ||| y) &&& z) i = false := fun i => by rw [h]; exact b_0 i
    constructor
    · refine b_ext (fun i _ => ?_)
      have a := hb i
      rw [b_and, b_or] at a
      rw [b_and, b_0]
      revert a
      cases bt x i <;> cases bt y i <;> cases bt z i <;> simp
    · refine b_ext (fun i _ => ?_)
      have a := hb i
      rw [b_and, b_or] at a
      rw [b_and, b_0]
      revert a
      cases bt x i <;> cases bt y i <;> cases bt z i <;> simp
  · intro h
    refine b_ext (fun i _ => ?_)
    have a : bt (x &&& z) i = false := by rw [h.1]; exact b_0 i
    have c : bt (y &&& z) i = false := by rw [h.2]; exact b_0 i
    rw [b_and] at a c
    rw [b_and, b_or, b_0]
    revert a c
    cases bt x i <;> cases bt y i <;> cases bt z i <;> simp
theorem bm_tab : ∀ m, m < 6 → ∀ n, n < 6 → ((((1 : Int32) <<< (nI m &&& 31)) &&& ((1 : Int32) <<< (nI n &&& 31))) = 0 ↔ ¬ n = m) := by decide +kernel
def mk_ (x : Int32) (l : List Nat) : Prop := ∀ n, n < 6 → ((x &&& ((1 : Int32) <<< (nI n &&& 31))) = 0 ↔ n ∉ l)
theorem mk_0 : mk_ 0 [] := by
  intro n _
  rw [show (0 : Int32) &&& ((1 : Int32) <<< (nI n &&& 31)) = 0 from b_ext (fun i _ => by rw [b_and, b_0]; rfl)]
  simp
theorem mk_s {x : Int32} {l : List Nat} {m : Nat} (hm : m < 6) (h : mk_ x l) : mk_ (x ||| ((1 : Int32) <<< (nI m &&& 31))) (l ++ [m]) := by
  intro n hn
  rw [or_and0, h n hn, bm_tab m hm n hn]
  simp
def rg_ (g : Nat → Int32) (k : Nat) (l : List Nat) : Nat → Int32 := fun j => if k * 6 ≤ j ∧ j < k * 6 + l.length then nI (l.getD (j - k * 6) 0) else g j
theorem rg_0 (g : Nat → Int32) (k : Nat) : rg_ g k [] = g := by
  funext j
  exact if_neg (fun w => by have := w.2; simp only [List.length_nil] at this; omega)
theorem rg_s (g : Nat → Int32) (k m : Nat) (l : List Nat) : upd (rg_ g k l) (k * 6 + l.length) (nI m) = rg_ g k (l ++ [m]) := by
  funext j
  simp only [upd, rg_, List.length_append, List.length_cons, List.length_nil]
  by_cases z : j = k * 6 + l.length
  · rw [if_pos z, if_pos (by omega), show j - k * 6 = l.length from by omega]
    simp
  · rw [if_neg z]
    by_cases y : k * 6 ≤ j ∧ j < k * 6 + l.length
    · rw [if_pos y, if_pos (by omega), List.getD_eq_getElem?_getD, List.getD_eq_getElem?_getD, List.getElem?_append_left (by omega)]
    · rw [if_neg y, if_neg (by omega)]
section
variable {N R K : Nat} {xlt xls xlc : Int64} {xrq xwq xpc : Int32} {xal xrg xkw xac xlv xrs xrk xry xro xra xrn xan xmk xmf xmt xmy xmg xmc xpn : Nat → Int32} {xlp xst xhi xcx xaw xms : Nat → Int64}
theorem x_lay_in {post : SX → Prop} {J7 : Int32 → Int32 → Int32 → (Nat → Int32) → (Nat → Int32) → (Nat → Int32) → (Nat → Int32) → (Nat → Int32) → (Nat → Int64) → (Nat → Int64) → (Nat → Int64) → (Nat → Int64) → (Nat → Int32) → (Nat → Int32) → (Nat → Int32) → (Nat → Int32) → (Nat → Int32) → (Nat → Int32) → (Nat → Int32) → (Nat → Int64) → (Nat → Int32) → (Nat → Int32) → (Nat → Int32) → (Nat → Int32) → (Nat → Int32) → (Nat → Int32) → (Nat → Int64) → (Nat → Int32) → Prop} {k s : Nat} (h3 : 3 ≤ N) (h6 : N ≤ 6) (hk : k < 4) (hs : s < 64) (hJ : ∀ x2, mk_ x2 (od_st N k (s + 1)) → J7 x2 (nI (od_st N k (s + 1)).length) (nI (s + 1)) xal (rg_ xrg k (od_st N k (s + 1))) xkw xac xlv xlp xst xhi xcx xrs xrk xry xro xra xrn xan xaw xmk xmf xmt xmy xmg xmc xms xpn) : ∀ d m f x2, m + d = N → mk_ x2 (od_in k s (od_st N k s) m) → wX_layOutOrder_32 post J7 (nI k) (nI s) (nI ((k * 19 + 9 + s) % 64)) xlt (nI N) (nI R) xrq xwq xpc xls xlc (nI K) (f + d + 1) x2 (nI (od_in k s (od_st N k s) m).length) (nI m) xal (rg_ xrg k (od_in k s (od_st N k s) m)) xkw xac xlv xlp xst xhi xcx xrs xrk xry xro xra xrn xan xaw xmk xmf xmt xmy xmg xmc xms xpn := by
  intro d
  induction d with
  | zero =>
    intro m f x2 e hx
    have e6 : m = N := by omega
    subst e6
    exact br_t (nI_le (Nat.le_refl _) (by omega)) (nm_r (nI_1 s) (hJ x2 hx))
  | succ d ih =>
    intro m f x2 e hx
    have hm : m < N := by omega
    have hit : od_hb k s m = true → wX_layOutOrder_77 post J7 (wX_layOutOrder_32 post J7 (nI k) (nI s) (nI ((k * 19 + 9 + s) % 64)) xlt (nI N) (nI R) xrq xwq xpc xls xlc (nI K) (f + d + 1)) (nI k) x2 (nI (od_in k s (od_st N k s) m).length) (nI s) (nI ((k * 19 + 9 + s) % 64)) (nI m) 1 xlt (nI N) (nI R) xrq xwq xpc xls xlc (nI K) xal (rg_ xrg k (od_in k s (od_st N k s) m)) xkw xac xlv xlp xst xhi xcx xrs xrk xry xro xra xrn xan xaw xmk xmf xmt xmy xmg xmc xms xpn := by
      intro hh
      by_cases z : m ∈ od_in k s (od_st N k s) m
      · have q := ih (m + 1) f x2 (by omega) (by rw [od_in_m z]; exact hx)
        rw [od_in_m z] at q
        exact br_f (by decide) (br_f (fun w => (hx m (by omega)).mp w z) (nm_r (nI_1 m) q))
      · have q := ih (m + 1) f (x2 ||| ((1 : Int32) <<< (nI m &&& 31))) (by omega) (by rw [od_in_t hh z]; exact mk_s (by omega) hx)
        rw [od_in_t hh z] at q
        have l6 := od_all (N := N) (k := k) (s := s) (m := m + 1) hs (by omega) h3 h6 hk
        rw [od_in_t hh z, List.length_append, List.length_cons, List.length_nil] at l6
        rw [List.length_append, List.length_cons, List.length_nil] at q
        unfold wX_layOutOrder_77
        rw [ix_6, nI_clamp (n := k * 6 + (od_in k s (od_st N k s) m).length) (by omega)]
        exact br_f (by decide) (br_t ((hx m (by omega)).mpr z) (nm_e ⟨vp_in_nI (by omega) (by decide), nm_r (rg_s xrg k m _) (nm_r (nI_1 _) (nm_r (nI_1 m) q))⟩))
    show wX_layOutOrder_32 post J7 (nI k) (nI s) (nI ((k * 19 + 9 + s) % 64)) xlt (nI N) (nI R) xrq xwq xpc xls xlc (nI K) ((f + d + 1) + 1) x2 (nI (od_in k s (od_st N k s) m).length) (nI m) xal (rg_ xrg k (od_in k s (od_st N k s) m)) xkw xac xlv xlp xst xhi xcx xrs xrk xry xro xra xrn xan xaw xmk xmf xmt xmy xmg xmc xms xpn
    rw [wX_layOutOrder_32]
    dsimp only
    rw [pt_n m (by omega), pt_m m (by omega)]
    refine br_f (nI_ge hm (by omega)) ?_
    by_cases z1 : nI ((m * 11 + 3) % 64) = nI ((k * 19 + 9 + s) % 64)
    · exact br_t z1 (hit ((od_hb_iff k s m).mpr (Or.inl (pt_eq.mp z1))))
    · refine br_f z1 ?_
      by_cases z2 : nI ((m * 23 + 40) % 64) = nI ((k * 19 + 9 + s) % 64)
      · exact br_t z2 (hit ((od_hb_iff k s m).mpr (Or.inr (pt_eq.mp z2))))
      · have hh : ¬ od_hb k s m = true := fun w => by
          rcases (od_hb_iff k s m).mp w with y | y
          · exact z1 (pt_eq.mpr y)
          · exact z2 (pt_eq.mpr y)
        have q := ih (m + 1) f x2 (by omega) (by rw [od_in_f hh]; exact hx)
        rw [od_in_f hh] at q
        exact br_f z2 (br_t rfl (nm_r (nI_1 m) q))
theorem x_lay_o {post : SX → Prop} {k : Nat} (h3 : 3 ≤ N) (h6 : N ≤ 6) (hk : k < 4) (h : post (xlt, nI N, nI R, xrq, xwq, xpc, xls, xlc, nI K, xal, rg_ xrg k (od_l N k), xkw, xac, xlv, xlp, xst, xhi, xcx, xrs, xrk, xry, xro, xra, xrn, xan, xaw, xmk, xmf, xmt, xmy, xmg, xmc, xms, xpn)) : ∀ d s f x2, s + d = 64 → mk_ x2 (od_st N k s) → wX_layOutOrder_7 post (nI k) xlt (nI N) (nI R) xrq xwq xpc xls xlc (nI K) (f + d + 1) x2 (nI (od_st N k s).length) (nI s) xal (rg_ xrg k (od_st N k s)) xkw xac xlv xlp xst xhi xcx xrs xrk xry xro xra xrn xan xaw xmk xmf xmt xmy xmg xmc xms xpn := by
  intro d
  induction d with
  | zero =>
    intro s f x2 e hx
    have e6 : s = 64 := by omega
    subst e6
    exact br_t (nI_le (Nat.le_refl 64) (by decide)) h
  | succ d ih =>
    intro s f x2 e hx
    show wX_layOutOrder_7 post (nI k) xlt (nI N) (nI R) xrq xwq xpc xls xlc (nI K) ((f + d + 1) + 1) x2 (nI (od_st N k s).length) (nI s) xal (rg_ xrg k (od_st N k s)) xkw xac xlv xlp xst xhi xcx xrs xrk xry xro xra xrn xan xaw xmk xmf xmt xmy xmg xmc xms xpn
    rw [wX_layOutOrder_7]
    refine br_f (nI_ge (b := 64) (by omega) (by decide)) (nm_r (pt_k k s (by omega) (by omega)) ⟨0 + N + 1, ?_⟩)
    exact x_lay_in (J7 := wX_layOutOrder_7 post (nI k) xlt (nI N) (nI R) xrq xwq xpc xls xlc (nI K) (f + d + 1)) h3 h6 hk (by omega) (fun x hx' => ih (s + 1) f x (by omega) hx') N 0 0 x2 (by omega) hx
theorem x_lay {post : SX → Prop} {k : Nat} (h3 : 3 ≤ N) (h6 : N ≤ 6) (hk : k < 4) (h : post (xlt, nI N, nI R, xrq, xwq, xpc, xls, xlc, nI K, xal, rg_ xrg k (od_l N k), xkw, xac, xlv, xlp, xst, xhi, xcx, xrs, xrk, xry, xro, xra, xrn, xan, xaw, xmk, xmf, xmt, xmy, xmg, xmc, xms, xpn)) : wpX_layOutOrder post (xlt, nI N, nI R, xrq, xwq, xpc, xls, xlc, nI K, xal, xrg, xkw, xac, xlv, xlp, xst, xhi, xcx, xrs, xrk, xry, xro, xra, xrn, xan, xaw, xmk, xmf, xmt, xmy, xmg, xmc, xms, xpn) (nI k) := by
  have a := x_lay_o h3 h6 hk h 64 0 0 0 rfl mk_0
  have e : od_st N k 0 = [] := rfl
  rw [e, rg_0] at a
  exact ⟨_, a⟩
end
def mt_ (a : Nat → Int32) (l : List Nat) : Prop := ∀ n, n < 6 → (a n = 0 ↔ n ∉ l)
theorem mt_s {a : Nat → Int32} {l : List Nat} {m : Nat} (h : mt_ a l) : mt_ (upd a m 1) (l ++ [m]) := by
  intro n hn
  by_cases z : n = m
  · subst z
    rw [pk_us]
    simp
  · rw [pk_un z, h n hn]
    simp [z]
section
variable {N R K : Nat} {xrq xwq : Int32} {ybi xkw ywn ywm ywv yal xrs xrk xry xro xra xrn xan xmk ymf ymt ymy ymg xmc yme yph ypn : Nat → Int32}
theorem y_nod_in {post : Int32 → SY → Prop} {J26 : Int32 → Int32 → (Nat → Int32) → (Nat → Int32) → (Nat → Int32) → (Nat → Int32) → (Nat → Int32) → (Nat → Int32) → (Nat → Int32) → (Nat → Int32) → (Nat → Int32) → (Nat → Int32) → (Nat → Int32) → (Nat → Int32) → (Nat → Int32) → (Nat → Int32) → (Nat → Int32) → (Nat → Int32) → (Nat → Int32) → (Nat → Int32) → (Nat → Int32) → (Nat → Int32) → (Nat → Int32) → (Nat → Int32) → Prop} {k s p : Nat} (h3 : 3 ≤ N) (h6 : N ≤ 6) (hk : k < 4) (hs : s < 64) (hp : p < N) (h : ∀ me, post (nI (od_ N k p)) (nI K, nI N, nI R, xrq, xwq, ybi, xkw, ywn, ywm, ywv, yal, xrs, xrk, xry, xro, xra, xrn, xan, xmk, ymf, ymt, ymy, ymg, xmc, me, yph, ypn)) (hJ : ∀ me, mt_ me (od_st N k (s + 1)) → (od_st N k (s + 1)).length ≤ p → J26 (nI (od_st N k (s + 1)).length) (nI (s + 1)) ybi xkw ywn ywm ywv yal xrs xrk xry xro xra xrn xan xmk ymf ymt ymy ymg xmc me yph ypn) : ∀ d m f me, m + d = N → mt_ me (od_in k s (od_st N k s) m) → (od_in k s (od_st N k s) m).length ≤ p → wY_nodeAt_51 post J26 (nI k) (nI p) (nI s) (nI ((k * 19 + 9 + s) % 64)) (nI K) (nI N) (nI R) xrq xwq (f + d + 1) (nI (od_in k s (od_st N k s) m).length) (nI m) ybi xkw ywn ywm ywv yal xrs xrk xry xro xra xrn xan xmk ymf ymt ymy ymg xmc me yph ypn := by
  intro d
  induction d with
  | zero =>
    intro m f me e hx hl
    have e6 : m = N := by omega
    subst e6
    exact br_t (nI_le (Nat.le_refl _) (by omega)) (nm_r (nI_1 s) (hJ me hx hl))
  | succ d ih =>
    intro m f me e hx hl
    have hm : m < N := by omega
    have v : vp_in (nI m) 6 := vp_in_nI (by omega) (by decide)
    have hit : od_hb k s m = true → m ∉ od_in k s (od_st N k s) m → wY_nodeAt_101 post J26 (wY_nodeAt_51 post J26 (nI k) (nI p) (nI s) (nI ((k * 19 + 9 + s) % 64)) (nI K) (nI N) (nI R) xrq xwq (f + d + 1)) (nI k) (nI p) (nI (od_in k s (od_st N k s) m).length) (nI s) (nI ((k * 19 + 9 + s) % 64)) (nI m) (nI K) (nI N) (nI R) xrq xwq ybi xkw ywn ywm ywv yal xrs xrk xry xro xra xrn xan xmk ymf ymt ymy ymg xmc me yph ypn := by
      intro hh z
      by_cases w : (od_in k s (od_st N k s) m).length = p
      · have a := od_at (N := N) hs hm hh z
        rw [w] at a
        have b := h me
        rw [a] at b
        exact br_t (congrArg nI w) b
      · have q := ih (m + 1) f (upd me m 1) (by omega) (by rw [od_in_t hh z]; exact mt_s hx) (by rw [od_in_t hh z, List.length_append, List.length_cons, List.length_nil]; omega)
        rw [od_in_t hh z, List.length_append, List.length_cons, List.length_nil] at q
        unfold wY_nodeAt_101
        rw [nI_clamp (n := m) (by omega), nb_1]
        exact br_f (fun y => w ((nI_eq (by omega) (by omega)).mp y)) ⟨v, nm_e (nm_r (nI_1 _) (nm_r (nI_1 m) q))⟩
    show wY_nodeAt_51 post J26 (nI k) (nI p) (nI s) (nI ((k * 19 + 9 + s) % 64)) (nI K) (nI N) (nI R) xrq xwq ((f + d + 1) + 1) (nI (od_in k s (od_st N k s) m).length) (nI m) ybi xkw ywn ywm ywv yal xrs xrk xry xro xra xrn xan xmk ymf ymt ymy ymg xmc me yph ypn
    rw [wY_nodeAt_51]
    dsimp only
    rw [pt_n m (by omega), pt_m m (by omega), nI_clamp (n := m) (by omega)]
    refine br_f (nI_ge hm (by omega)) ⟨v, ?_⟩
    by_cases z : m ∈ od_in k s (od_st N k s) m
    · have q := ih (m + 1) f me (by omega) (by rw [od_in_m z]; exact hx) (by rw [od_in_m z]; exact hl)
      rw [od_in_m z] at q
      exact br_f (fun w => (hx m (by omega)).mp w z) (nm_r (nI_1 m) q)
    · refine br_t ((hx m (by omega)).mpr z) ?_
      by_cases z1 : nI ((m * 11 + 3) % 64) = nI ((k * 19 + 9 + s) % 64)
      · exact br_t z1 (hit ((od_hb_iff k s m).mpr (Or.inl (pt_eq.mp z1))) z)
      · refine br_f z1 ?_
        by_cases z2 : nI ((m * 23 + 40) % 64) = nI ((k * 19 + 9 + s) % 64)
        · exact br_t z2 (hit ((od_hb_iff k s m).mpr (Or.inr (pt_eq.mp z2))) z)
        · have hh : ¬ od_hb k s m = true := fun w => by
            rcases (od_hb_iff k s m).mp w with y | y
            · exact z1 (pt_eq.mpr y)
            · exact z2 (pt_eq.mpr y)
          have q := ih (m + 1) f me (by omega) (by rw [od_in_f hh]; exact hx) (by rw [od_in_f hh]; exact hl)
          rw [od_in_f hh] at q
          exact br_f z2 (nm_r (nI_1 m) q)
theorem y_nod_o {post : Int32 → SY → Prop} {k p : Nat} (h3 : 3 ≤ N) (h6 : N ≤ 6) (hk : k < 4) (hp : p < N) (h : ∀ me, post (nI (od_ N k p)) (nI K, nI N, nI R, xrq, xwq, ybi, xkw, ywn, ywm, ywv, yal, xrs, xrk, xry, xro, xra, xrn, xan, xmk, ymf, ymt, ymy, ymg, xmc, me, yph, ypn)) : ∀ d s f me, s + d = 64 → mt_ me (od_st N k s) → (od_st N k s).length ≤ p → wY_nodeAt_26 post (nI k) (nI p) (nI K) (nI N) (nI R) xrq xwq (f + d + 1) (nI (od_st N k s).length) (nI s) ybi xkw ywn ywm ywv yal xrs xrk xry xro xra xrn xan xmk ymf ymt ymy ymg xmc me yph ypn := by
  intro d
  induction d with
  | zero =>
    intro s f me e hx hl
    have e6 : s = 64 := by omega
    subst e6
    have t := (od_tab h3 h6 hk).1
    have t2 : (od_st N k 64).length = N := t
    omega
  | succ d ih =>
    intro s f me e hx hl
    show wY_nodeAt_26 post (nI k) (nI p) (nI K) (nI N) (nI R) xrq xwq ((f + d + 1) + 1) (nI (od_st N k s).length) (nI s) ybi xkw ywn ywm ywv yal xrs xrk xry xro xra xrn xan xmk ymf ymt ymy ymg xmc me yph ypn
    rw [wY_nodeAt_26]
    refine br_f (nI_ge (b := 64) (by omega) (by decide)) (nm_r (pt_k k s (by omega) (by omega)) ⟨0 + N + 1, ?_⟩)
    exact y_nod_in (J26 := wY_nodeAt_26 post (nI k) (nI p) (nI K) (nI N) (nI R) xrq xwq (f + d + 1)) h3 h6 hk (by omega) hp h (fun me' hx' hl' => ih (s + 1) f me' (by omega) hx' hl') N 0 0 me (by omega) hx hl
theorem y_nod_r {post : Int32 → SY → Prop} {k p : Nat} (h3 : 3 ≤ N) (h6 : N ≤ 6) (hk : k < 4) (hp : p < N) (h : ∀ me, post (nI (od_ N k p)) (nI K, nI N, nI R, xrq, xwq, ybi, xkw, ywn, ywm, ywv, yal, xrs, xrk, xry, xro, xra, xrn, xan, xmk, ymf, ymt, ymy, ymg, xmc, me, yph, ypn)) : ∀ d i f me, i + d = 6 → (∀ n, n < i → me n = 0) → wY_nodeAt_2 post (nI k) (nI p) (nI K) (nI N) (nI R) xrq xwq (f + d + 1) (nI i) ybi xkw ywn ywm ywv yal xrs xrk xry xro xra xrn xan xmk ymf ymt ymy ymg xmc me yph ypn := by
  intro d
  induction d with
  | zero =>
    intro i f me e hx
    have e6 : i = 6 := by omega
    subst e6
    have q := y_nod_o h3 h6 hk hp h 64 0 0 me rfl (fun n hn => by rw [hx n hn]; simp [od_st]) (Nat.zero_le _)
    exact br_t (nI_le (Nat.le_refl 6) (by decide)) ⟨_, q⟩
  | succ d ih =>
    intro i f me e hx
    have v : vp_in (nI i) 6 := vp_in_nI (by omega) (by decide)
    show wY_nodeAt_2 post (nI k) (nI p) (nI K) (nI N) (nI R) xrq xwq ((f + d + 1) + 1) (nI i) ybi xkw ywn ywm ywv yal xrs xrk xry xro xra xrn xan xmk ymf ymt ymy ymg xmc me yph ypn
    rw [wY_nodeAt_2]
    dsimp only
    rw [nI_clamp (n := i) (by omega), nb_0]
    refine br_f (nI_ge (b := 6) (by omega) (by decide)) ⟨v, nm_e (nm_r (nI_1 i) (ih (i + 1) f (upd me i 0) (by omega) ?_))⟩
    intro n hn
    by_cases z : n = i
    · rw [z, pk_us]
    · rw [pk_un z]; exact hx n (by omega)
theorem y_nod {post : Int32 → SY → Prop} {k p : Nat} (h3 : 3 ≤ N) (h6 : N ≤ 6) (hk : k < 4) (hp : p < N) (h : ∀ me, post (nI (od_ N k p)) (nI K, nI N, nI R, xrq, xwq, ybi, xkw, ywn, ywm, ywv, yal, xrs, xrk, xry, xro, xra, xrn, xan, xmk, ymf, ymt, ymy, ymg, xmc, me, yph, ypn)) : wpY_nodeAt post (nI K, nI N, nI R, xrq, xwq, ybi, xkw, ywn, ywm, ywv, yal, xrs, xrk, xry, xro, xra, xrn, xan, xmk, ymf, ymt, ymy, ymg, xmc, yme, yph, ypn) (nI k) (nI p) :=
  ⟨_, y_nod_r h3 h6 hk hp h 6 0 0 yme rfl (fun n hn => by omega)⟩
end
end
section
/-! the relation -/
def ag_ (b b' : Nat → Int32) (r0 : Nat) : Prop := ∀ r, r ≠ r0 → ∀ i, i < 40 → b' (r * 40 + i) = b (r * 40 + i)
def rr_ (C : Nat → Nat) (D : Nat → Nat → Nat) (b : Nat → Int32) (k : Nat) (S : Int64) (r : Nat) : Prop := rs_p (C k) (D k) S (fun i => ¬ b (r * 40 + i) = 0)
def ra_ (N : Nat) (xal yal : Nat → Int32) : Prop := ∀ n, n < N → xal n = yal n
def ro_ (N : Nat) (xrg : Nat → Int32) : Prop := ∀ k, k < 4 → ∀ p, p < N → xrg (k * 6 + p) = nI (od_ N k p)
def rl_ (N : Nat) (C : Nat → Nat) (D : Nat → Nat → Nat) (xkw xac xlv : Nat → Int32) (xlp : Nat → Int64) (ywn ywm ywv ybi : Nat → Int32) : Prop := ∀ k, k < 4 →
  C k ≤ 40 ∧ (∀ i, i < C k → D k i < N) ∧ xkw k = nI (C k) ∧
  (∀ i, i < C k → ywn (k * 40 + i) = nI (D k i) ∧ ywm (k * 40 + i) = nI (ct_n (D k) (D k i) i + 1) ∧ xlv ((k * 6 + D k i) * 41 + (ct_n (D k) (D k i) i + 1)) = ywv (k * 40 + i)) ∧
  (∀ n, n < N → xac (k * 6 + n) = nI (ct_n (D k) n (C k)) ∧ ∀ m, m ≤ ct_n (D k) n (C k) → rs_p (C k) (D k) (xlp ((k * 6 + n) * 41 + m)) (fun i => ∃ y, y < C k ∧ D k y = n ∧ ct_n (D k) n y < m ∧ ¬ ybi ((235 + k * 40 + y) * 40 + i) = 0))
def rb_ (ybi : Nat → Int32) : Prop := (∀ j, ybi j = 0 ∨ ybi j = 1) ∧ ∀ i, i < 40 → ybi (234 * 40 + i) = 0
def rt_ (N : Nat) (C : Nat → Nat) (D : Nat → Nat → Nat) (ybi : Nat → Int32) (xst xhi xcx : Nat → Int64) : Prop :=
  (∀ j, j < 24 → rr_ C D ybi (j % 4) (xst j) j) ∧ (∀ j, j < 144 → rr_ C D ybi (j % 4) (xhi j) (24 + j)) ∧ (∀ j, j < 16 → rr_ C D ybi (j % 4) (xcx j) (168 + j)) ∧ (∀ k, k < 4 → ∀ n, n < N → ln_ (xst (n * 4 + k)) n = ct_n (D k) n (C k))
def mg_ (N : Nat) (C : Nat → Nat) (D : Nat → Nat → Nat) (ybi xrs xry : Nat → Int32) (s : Nat) (k f t y g c : Int32) (S : Int64) (f' t' y' g' : Int32) : Prop :=
  (k = 0 → f = -1 ∧ t = -1 ∧ y = -1 ∧ g = -1 ∧ c = -1) ∧
  (¬ k = 0 → ∃ kk ff tt yy : Nat, kk < 10 ∧ k = nI kk ∧ ff < N ∧ tt < N ∧ yy < 4 ∧ f = nI ff ∧ f' = nI ff ∧ t = nI tt ∧ t' = nI tt ∧ y = nI yy ∧ y' = nI yy ∧ g' = g ∧ ((kk = 2 ∨ kk = 4) → ∃ gg : Nat, gg < N ∧ g = nI gg) ∧ (c = -1 ∨ ∃ cc : Nat, cc < 4 ∧ c = nI cc ∧ xrs cc = 1 ∧ xry cc = nI yy) ∧ rr_ C D ybi yy S (184 + s))
def rm_ (N : Nat) (C : Nat → Nat) (D : Nat → Nat → Nat) (ybi xrs xry xmk xmf xmt xmy xmg xmc : Nat → Int32) (xms : Nat → Int64) (ymf ymt ymy ymg : Nat → Int32) : Prop :=
  ∀ s, s < 24 → mg_ N C D ybi xrs xry s (xmk s) (xmf s) (xmt s) (xmy s) (xmg s) (xmc s) (xms s) (ymf s) (ymt s) (ymy s) (ymg s)
def rq_ (ex N : Nat) (xrs xry xro xan : Nat → Int32) : Prop := ∀ c, c < 4 → (xrs c = 1 → ∃ y n : Nat, y < 4 ∧ n < N ∧ xry c = nI y ∧ xro c = nI n) ∧ (¬ c = ex → ¬ xrs c = 1 → ∀ n, n < 6 → xan (c * 6 + n) = 0)
def rn_ (C : Nat → Nat) (D : Nat → Nat → Nat) (ybi xry xan : Nat → Int32) (xaw : Nat → Int64) : Prop := ∀ c, c < 4 → ∀ n, n < 6 → ¬ xan (c * 6 + n) = 0 → ∃ y : Nat, y < 4 ∧ xry c = nI y ∧ rr_ C D ybi y (xaw (c * 6 + n)) (208 + c * 6 + n)
def rx_ (K : Nat) (C : Nat → Nat) (D : Nat → Nat → Nat) (ybi : Nat → Int32) (xls xlc : Int64) : Prop := K < 4 ∧ rr_ C D ybi K xls 232 ∧ rs_p (C K) (D K) xlc (fun i => ∃ t, t < 40 ∧ ¬ ybi (232 * 40 + t) = 0 ∧ ¬ ybi ((235 + K * 40 + t) * 40 + i) = 0)
def rz_ (N R : Nat) : Prop := 3 ≤ N ∧ N ≤ 6 ∧ 1 ≤ R ∧ R ≤ N
def QR (ex N R K : Nat) (C : Nat → Nat) (D : Nat → Nat → Nat) (xls xlc : Int64) (xal xrg xkw xac xlv : Nat → Int32) (xlp xst xhi xcx : Nat → Int64) (xrs xry xro xan : Nat → Int32) (xaw : Nat → Int64) (xmk xmf xmt xmy xmg xmc : Nat → Int32) (xms : Nat → Int64) (ybi ywn ywm ywv yal ymf ymt ymy ymg : Nat → Int32) : Prop :=
  rz_ N R ∧ ra_ N xal yal ∧ ro_ N xrg ∧ rl_ N C D xkw xac xlv xlp ywn ywm ywv ybi ∧ rb_ ybi ∧ rt_ N C D ybi xst xhi xcx ∧ rm_ N C D ybi xrs xry xmk xmf xmt xmy xmg xmc xms ymf ymt ymy ymg ∧ rq_ ex N xrs xry xro xan ∧ rn_ C D ybi xry xan xaw ∧ rx_ K C D ybi xls xlc
section
variable {C : Nat → Nat} {D : Nat → Nat → Nat} {b b' : Nat → Int32} {r0 r q k : Nat} {S S' : Int64} {f : Nat → Int32}
theorem ag_wr : ag_ b (wr_ b r0 40 f) r0 := fun _ h _ hi => wr_n hi h
theorem ag_cp : ag_ b (cp_ b q r0) r0 := ag_wr
theorem ag_jr : ag_ b (jr_ b q r0) r0 := ag_wr
theorem rr_ag (a : ag_ b b' r0) (hr : r ≠ r0) (h : rr_ C D b k S r) : rr_ C D b' k S r := rs_cg h (fun i hi => by
  show ¬ b' (r * 40 + i) = 0 ↔ ¬ b (r * 40 + i) = 0
  rw [a r hr i hi])
theorem rr_cp (h : rr_ C D b k S q) : rr_ C D (cp_ b q r) k S r := rs_cg h (fun i hi => by
  show ¬ cp_ b q r (r * 40 + i) = 0 ↔ ¬ b (q * 40 + i) = 0
  unfold cp_
  rw [wr_y hi])
theorem rr_jr (hc : cx_ (C k) (D k)) (h : rr_ C D b k S r) (h' : rr_ C D b k S' q) : rr_ C D (jr_ b q r) k (jn_ S S') r := rs_cg (rs_join hc h h') (fun i hi => by
  show ¬ jr_ b q r (r * 40 + i) = 0 ↔ ¬ b (r * 40 + i) = 0 ∨ ¬ b (q * 40 + i) = 0
  unfold jr_
  rw [wr_y hi]
  by_cases z : b (q * 40 + i) = 0
  · rw [if_pos z]
    exact ⟨Or.inl, fun w => w.elim id (fun w => absurd z w)⟩
  · rw [if_neg z]
    exact ⟨fun _ => Or.inr z, fun _ => by decide⟩)
theorem rr_em (h : rb_ b) : rr_ C D b k 0 234 := rs_cg rs_0 (fun i hi => by
  show ¬ b (234 * 40 + i) = 0 ↔ False
  exact ⟨fun w => w (h.2 i hi), fun w => w.elim⟩)
theorem rb_ag (a : ag_ b b' r0) (h0 : r0 ≠ 234) (h1 : ∀ j, b' j = 0 ∨ b' j = 1) (h : rb_ b) : rb_ b' := ⟨h1, fun i hi => by rw [a 234 (Ne.symm h0) i hi]; exact h.2 i hi⟩
theorem rl_ag {N : Nat} {xkw xac xlv : Nat → Int32} {xlp : Nat → Int64} {ywn ywm ywv : Nat → Int32} (a : ag_ b b' r0) (h0 : r0 < 235) (h : rl_ N C D xkw xac xlv xlp ywn ywm ywv b) : rl_ N C D xkw xac xlv xlp ywn ywm ywv b' := by
  intro k hk
  obtain ⟨h1, h2, h3, h4, h5⟩ := h k hk
  refine ⟨h1, h2, h3, h4, fun n hn => ⟨(h5 n hn).1, fun m hm => rs_cg ((h5 n hn).2 m hm) (fun i hi => ?_)⟩⟩
  constructor
  · rintro ⟨y, y1, y2, y3, y4⟩
    rw [a (235 + k * 40 + y) (by omega) i hi] at y4
    exact ⟨y, y1, y2, y3, y4⟩
  · rintro ⟨y, y1, y2, y3, y4⟩
    refine ⟨y, y1, y2, y3, ?_⟩
    rw [a (235 + k * 40 + y) (by omega) i hi]
    exact y4
theorem rx_ag {K : Nat} {xls xlc : Int64} (a : ag_ b b' r0) (h0 : r0 < 235) (h1 : r0 ≠ 232) (h : rx_ K C D b xls xlc) : rx_ K C D b' xls xlc := by
  refine ⟨h.1, rr_ag a (Ne.symm h1) h.2.1, rs_cg h.2.2 (fun i hi => ?_)⟩
  constructor
  · rintro ⟨y, y1, y2, y3⟩
    rw [a 232 (Ne.symm h1) y y1] at y2
    rw [a (235 + K * 40 + y) (by omega) i hi] at y3
    exact ⟨y, y1, y2, y3⟩
  · rintro ⟨y, y1, y2, y3⟩
    refine ⟨y, y1, ?_, ?_⟩
    · rw [a 232 (Ne.symm h1) y y1]; exact y2
    · rw [a (235 + K * 40 + y) (by omega) i hi]; exact y3
theorem mg_mono {N : Nat} {C' : Nat → Nat} {D' : Nat → Nat → Nat} {xrs xry xrs' xry' : Nat → Int32} {s : Nat} {k f t y g c : Int32} {f' t' y' g' : Int32} (h1 : ∀ yy, yy < 4 → rr_ C D b yy S (184 + s) → rr_ C' D' b' yy S (184 + s)) (h2 : ∀ cc, cc < 4 → c = nI cc → xrs cc = 1 → xrs' cc = 1 ∧ xry' cc = xry cc) (h : mg_ N C D b xrs xry s k f t y g c S f' t' y' g') : mg_ N C' D' b' xrs' xry' s k f t y g c S f' t' y' g' := by
  refine ⟨h.1, fun z => ?_⟩
  obtain ⟨kk, ff, tt, yy, a1, a2, a3, a4, a5, a6, a7, a8, a9, a10, a11, a12, a13, a14, a15⟩ := h.2 z
  refine ⟨kk, ff, tt, yy, a1, a2, a3, a4, a5, a6, a7, a8, a9, a10, a11, a12, a13, ?_, h1 yy a5 a15⟩
  rcases a14 with w | ⟨cc, w1, w2, w3, w4⟩
  · exact Or.inl w
  · obtain ⟨v1, v2⟩ := h2 cc w1 w2 w3
    exact Or.inr ⟨cc, w1, w2, v1, by rw [v2]; exact w4⟩
theorem rm_ag {N : Nat} {xrs xry xmk xmf xmt xmy xmg xmc : Nat → Int32} {xms : Nat → Int64} {ymf ymt ymy ymg : Nat → Int32} (a : ag_ b b' r0) (h0 : r0 < 184 ∨ 208 ≤ r0) (h : rm_ N C D b xrs xry xmk xmf xmt xmy xmg xmc xms ymf ymt ymy ymg) : rm_ N C D b' xrs xry xmk xmf xmt xmy xmg xmc xms ymf ymt ymy ymg :=
  fun s hs => mg_mono (fun yy _ => rr_ag a (by omega)) (fun cc _ _ z => ⟨z, rfl⟩) (h s hs)
theorem rn_ag {xry xan : Nat → Int32} {xaw : Nat → Int64} (a : ag_ b b' r0) (h0 : r0 < 208 ∨ 232 ≤ r0) (h : rn_ C D b xry xan xaw) : rn_ C D b' xry xan xaw := by
  intro c hc n hn z
  obtain ⟨y, y1, y2, y3⟩ := h c hc n hn z
  exact ⟨y, y1, y2, rr_ag a (by omega) y3⟩
theorem rt_ag {N : Nat} {xst xhi xcx : Nat → Int64} (a : ag_ b b' r0) (h0 : 184 ≤ r0) (h : rt_ N C D b xst xhi xcx) : rt_ N C D b' xst xhi xcx :=
  ⟨fun j hj => rr_ag a (by omega) (h.1 j hj), fun j hj => rr_ag a (by omega) (h.2.1 j hj), fun j hj => rr_ag a (by omega) (h.2.2.1 j hj), h.2.2.2⟩
end
section
variable {N R K : Nat} {xlt xls xlc : Int64} {xrq xwq xpc : Int32} {xal xrg xkw xac xlv xrs xrk xry xro xra xrn xan xmk xmf xmt xmy xmg xmc xpn ybi ywn ywm ywv yal ymf ymt ymy ymg yme yph ypn : Nat → Int32} {xlp xst xhi xcx xaw xms : Nat → Int64}
variable {ex : Nat} {C : Nat → Nat} {D : Nat → Nat → Nat}
theorem q_mk (h1 : rz_ N R) (h2 : ra_ N xal yal) (h3 : ro_ N xrg) (h4 : rl_ N C D xkw xac xlv xlp ywn ywm ywv ybi) (h5 : rb_ ybi) (h6 : rt_ N C D ybi xst xhi xcx) (h7 : rm_ N C D ybi xrs xry xmk xmf xmt xmy xmg xmc xms ymf ymt ymy ymg) (h8 : rq_ ex N xrs xry xro xan) (h9 : rn_ C D ybi xry xan xaw) (h10 : rx_ K C D ybi xls xlc) : QR ex N R K C D xls xlc xal xrg xkw xac xlv xlp xst xhi xcx xrs xry xro xan xaw xmk xmf xmt xmy xmg xmc xms ybi ywn ywm ywv yal ymf ymt ymy ymg :=
  And.intro h1 (And.intro h2 (And.intro h3 (And.intro h4 (And.intro h5 (And.intro h6 (And.intro h7 (And.intro h8 (And.intro h9 h10))))))))
theorem q_cx {k : Nat} (h : QR ex N R K C D xls xlc xal xrg xkw xac xlv xlp xst xhi xcx xrs xry xro xan xaw xmk xmf xmt xmy xmg xmc xms ybi ywn ywm ywv yal ymf ymt ymy ymg) (hk : k < 4) : cx_ (C k) (D k) := by
  obtain ⟨⟨_, hN, _⟩, _, _, hL, _⟩ := h
  obtain ⟨h1, h2, _⟩ := hL k hk
  exact ⟨h1, fun i hi => Nat.lt_of_lt_of_le (h2 i hi) hN⟩
theorem q_01 (h : QR ex N R K C D xls xlc xal xrg xkw xac xlv xlp xst xhi xcx xrs xry xro xan xaw xmk xmf xmt xmy xmg xmc xms ybi ywn ywm ywv yal ymf ymt ymy ymg) : ∀ j, ybi j = 0 ∨ ybi j = 1 := h.2.2.2.2.1.1
theorem q_em {k : Nat} (h : QR ex N R K C D xls xlc xal xrg xkw xac xlv xlp xst xhi xcx xrs xry xro xan xaw xmk xmf xmt xmy xmg xmc xms ybi ywn ywm ywv yal ymf ymt ymy ymg) : rr_ C D ybi k 0 234 := rr_em h.2.2.2.2.1
theorem q_st {t y : Nat} (h : QR ex N R K C D xls xlc xal xrg xkw xac xlv xlp xst xhi xcx xrs xry xro xan xaw xmk xmf xmt xmy xmg xmc xms ybi ywn ywm ywv yal ymf ymt ymy ymg) (hy : y < 4) (ht : t < 6) : rr_ C D ybi y (xst (t * 4 + y)) (t * 4 + y) := by
  obtain ⟨_, _, _, _, _, hT, _⟩ := h
  have a := hT.1 (t * 4 + y) (by omega)
  rw [show (t * 4 + y) % 4 = y from by omega] at a
  exact a
theorem q_hi {a t y : Nat} (h : QR ex N R K C D xls xlc xal xrg xkw xac xlv xlp xst xhi xcx xrs xry xro xan xaw xmk xmf xmt xmy xmg xmc xms ybi ywn ywm ywv yal ymf ymt ymy ymg) (hy : y < 4) (ha : a < 6) (ht : t < 6) : rr_ C D ybi y (xhi ((a * 6 + t) * 4 + y)) (24 + (a * 6 + t) * 4 + y) := by
  obtain ⟨_, _, _, _, _, hT, _⟩ := h
  have z := hT.2.1 ((a * 6 + t) * 4 + y) (by omega)
  rw [show ((a * 6 + t) * 4 + y) % 4 = y from by omega, ← Nat.add_assoc] at z
  exact z
theorem q_cxt {c y : Nat} (h : QR ex N R K C D xls xlc xal xrg xkw xac xlv xlp xst xhi xcx xrs xry xro xan xaw xmk xmf xmt xmy xmg xmc xms ybi ywn ywm ywv yal ymf ymt ymy ymg) (hy : y < 4) (hc : c < 4) : rr_ C D ybi y (xcx (c * 4 + y)) (168 + c * 4 + y) := by
  obtain ⟨_, _, _, _, _, hT, _⟩ := h
  have z := hT.2.2.1 (c * 4 + y) (by omega)
  rw [show (c * 4 + y) % 4 = y from by omega, ← Nat.add_assoc] at z
  exact z
theorem q_jst {t y r : Nat} {S : Int64} (h : QR ex N R K C D xls xlc xal xrg xkw xac xlv xlp xst xhi xcx xrs xry xro xan xaw xmk xmf xmt xmy xmg xmc xms ybi ywn ywm ywv yal ymf ymt ymy ymg) (ht : t < 6) (hy : y < 4) (hS : rr_ C D ybi y S r) : QR ex N R K C D xls xlc xal xrg xkw xac xlv xlp (vp_updL xst (t * 4 + y) (jn_ (xst (t * 4 + y)) S)) xhi xcx xrs xry xro xan xaw xmk xmf xmt xmy xmg xmc xms (jr_ ybi (r) ((t * 4 + y))) ywn ywm ywv yal ymf ymt ymy ymg := by
  have cx := q_cx h hy
  have ht0 := q_st h hy ht
  obtain ⟨hZ, hA, hO, hL, hB, hT, hM, hQ, hN, hX⟩ := h
  have a : ag_ ybi (jr_ ybi r (t * 4 + y)) (t * 4 + y) := ag_jr
  refine q_mk hZ hA hO (rl_ag a (by omega) hL) (rb_ag a (by omega) (jr_01 hB.1) hB) ⟨fun j hj => ?_, fun j hj => rr_ag a (by omega) (hT.2.1 j hj), fun j hj => rr_ag a (by omega) (hT.2.2.1 j hj), fun k hk n hn => ?_⟩ (rm_ag a (by omega) hM) hQ (rn_ag a (by omega) hN) (rx_ag a (by omega) (by omega) hX)
  · by_cases z : j = t * 4 + y
    · subst z
      rw [pk_uLs, show (t * 4 + y) % 4 = y from by omega]
      exact rr_jr cx ht0 hS
    · rw [pk_uLn z]
      exact rr_ag a z (hT.1 j hj)
  · by_cases z : n * 4 + k = t * 4 + y
    · have e1 : n = t := by omega
      have e2 : k = y := by omega
      subst e1 e2
      rw [pk_uLs, ln_jn (rs_ok cx ht0) (rs_ok cx hS) (by omega), hT.2.2.2 k hk n hn]
      have w := hS.1 n (by omega)
      rw [if_pos w]
    · rw [pk_uLn z]
      exact hT.2.2.2 k hk n hn
theorem q_jhi {a t y r : Nat} {S : Int64} (h : QR ex N R K C D xls xlc xal xrg xkw xac xlv xlp xst xhi xcx xrs xry xro xan xaw xmk xmf xmt xmy xmg xmc xms ybi ywn ywm ywv yal ymf ymt ymy ymg) (ha : a < 6) (ht : t < 6) (hy : y < 4) (hS : rr_ C D ybi y S r) : QR ex N R K C D xls xlc xal xrg xkw xac xlv xlp xst (vp_updL xhi ((a * 6 + t) * 4 + y) (jn_ (xhi ((a * 6 + t) * 4 + y)) S)) xcx xrs xry xro xan xaw xmk xmf xmt xmy xmg xmc xms (jr_ ybi (r) ((24 + (a * 6 + t) * 4 + y))) ywn ywm ywv yal ymf ymt ymy ymg := by
  have cx := q_cx h hy
  have h0 := q_hi h hy ha ht
  obtain ⟨hZ, hA, hO, hL, hB, hT, hM, hQ, hN, hX⟩ := h
  have g : ag_ ybi (jr_ ybi r (24 + (a * 6 + t) * 4 + y)) (24 + (a * 6 + t) * 4 + y) := ag_jr
  refine q_mk hZ hA hO (rl_ag g (by omega) hL) (rb_ag g (by omega) (jr_01 hB.1) hB) ⟨fun j hj => rr_ag g (by omega) (hT.1 j hj), fun j hj => ?_, fun j hj => rr_ag g (by omega) (hT.2.2.1 j hj), hT.2.2.2⟩ (rm_ag g (by omega) hM) hQ (rn_ag g (by omega) hN) (rx_ag g (by omega) (by omega) hX)
  by_cases z : j = (a * 6 + t) * 4 + y
  · subst z
    rw [pk_uLs, show ((a * 6 + t) * 4 + y) % 4 = y from by omega, ← Nat.add_assoc]
    exact rr_jr cx h0 hS
  · rw [pk_uLn z]
    exact rr_ag g (by omega) (hT.2.1 j hj)
theorem q_hz {a t y : Nat} (h : QR ex N R K C D xls xlc xal xrg xkw xac xlv xlp xst xhi xcx xrs xry xro xan xaw xmk xmf xmt xmy xmg xmc xms ybi ywn ywm ywv yal ymf ymt ymy ymg) (ha : a < 6) (ht : t < 6) (hy : y < 4) : QR ex N R K C D xls xlc xal xrg xkw xac xlv xlp xst (vp_updL xhi ((a * 6 + t) * 4 + y) 0) xcx xrs xry xro xan xaw xmk xmf xmt xmy xmg xmc xms (cp_ ybi (234) ((24 + (a * 6 + t) * 4 + y))) ywn ywm ywv yal ymf ymt ymy ymg := by
  have h0 := q_em (k := y) h
  obtain ⟨hZ, hA, hO, hL, hB, hT, hM, hQ, hN, hX⟩ := h
  have g : ag_ ybi (cp_ ybi 234 (24 + (a * 6 + t) * 4 + y)) (24 + (a * 6 + t) * 4 + y) := ag_cp
  refine q_mk hZ hA hO (rl_ag g (by omega) hL) (rb_ag g (by omega) (cp_01 hB.1) hB) ⟨fun j hj => rr_ag g (by omega) (hT.1 j hj), fun j hj => ?_, fun j hj => rr_ag g (by omega) (hT.2.2.1 j hj), hT.2.2.2⟩ (rm_ag g (by omega) hM) hQ (rn_ag g (by omega) hN) (rx_ag g (by omega) (by omega) hX)
  by_cases z : j = (a * 6 + t) * 4 + y
  · subst z
    rw [pk_uLs, show ((a * 6 + t) * 4 + y) % 4 = y from by omega, ← Nat.add_assoc]
    exact rr_cp h0
  · rw [pk_uLn z]
    exact rr_ag g (by omega) (hT.2.1 j hj)
theorem q_cset {c y r : Nat} {S : Int64} (h : QR ex N R K C D xls xlc xal xrg xkw xac xlv xlp xst xhi xcx xrs xry xro xan xaw xmk xmf xmt xmy xmg xmc xms ybi ywn ywm ywv yal ymf ymt ymy ymg) (hc : c < 4) (hy : y < 4) (hS : rr_ C D ybi y S r) : QR ex N R K C D xls xlc xal xrg xkw xac xlv xlp xst xhi (vp_updL xcx (c * 4 + y) S) xrs xry xro xan xaw xmk xmf xmt xmy xmg xmc xms (cp_ ybi (r) ((168 + c * 4 + y))) ywn ywm ywv yal ymf ymt ymy ymg := by
  obtain ⟨hZ, hA, hO, hL, hB, hT, hM, hQ, hN, hX⟩ := h
  have g : ag_ ybi (cp_ ybi r (168 + c * 4 + y)) (168 + c * 4 + y) := ag_cp
  refine q_mk hZ hA hO (rl_ag g (by omega) hL) (rb_ag g (by omega) (cp_01 hB.1) hB) ⟨fun j hj => rr_ag g (by omega) (hT.1 j hj), fun j hj => rr_ag g (by omega) (hT.2.1 j hj), fun j hj => ?_, hT.2.2.2⟩ (rm_ag g (by omega) hM) hQ (rn_ag g (by omega) hN) (rx_ag g (by omega) (by omega) hX)
  by_cases z : j = c * 4 + y
  · subst z
    rw [pk_uLs, show (c * 4 + y) % 4 = y from by omega, ← Nat.add_assoc]
    exact rr_cp hS
  · rw [pk_uLn z]
    exact rr_ag g (by omega) (hT.2.2.1 j hj)
/-- row 233 is free to change -/
theorem q_233 {f : Nat → Int32} (h : QR ex N R K C D xls xlc xal xrg xkw xac xlv xlp xst xhi xcx xrs xry xro xan xaw xmk xmf xmt xmy xmg xmc xms ybi ywn ywm ywv yal ymf ymt ymy ymg) (hf : ∀ j, j < 40 → f j = 0 ∨ f j = 1) : QR ex N R K C D xls xlc xal xrg xkw xac xlv xlp xst xhi xcx xrs xry xro xan xaw xmk xmf xmt xmy xmg xmc xms (wr_ ybi 233 40 f) ywn ywm ywv yal ymf ymt ymy ymg := by
  obtain ⟨hZ, hA, hO, hL, hB, hT, hM, hQ, hN, hX⟩ := h
  have g : ag_ ybi (wr_ ybi 233 40 f) 233 := ag_wr
  exact q_mk hZ hA hO (rl_ag g (by omega) hL) (rb_ag g (by omega) (wr_01 hB.1 hf) hB) (rt_ag g (by omega) hT) (rm_ag g (by omega) hM) hQ (rn_ag g (by omega) hN) (rx_ag g (by omega) (by omega) hX)
theorem q_al {n : Nat} {v : Int32} (h : QR ex N R K C D xls xlc xal xrg xkw xac xlv xlp xst xhi xcx xrs xry xro xan xaw xmk xmf xmt xmy xmg xmc xms ybi ywn ywm ywv yal ymf ymt ymy ymg) : QR ex N R K C D xls xlc (upd xal n v) xrg xkw xac xlv xlp xst xhi xcx xrs xry xro xan xaw xmk xmf xmt xmy xmg xmc xms ybi ywn ywm ywv (upd yal n v) ymf ymt ymy ymg := by
  obtain ⟨hZ, hA, hO, hL, hB, hT, hM, hQ, hN, hX⟩ := h
  refine q_mk hZ (fun j hj => ?_) hO hL hB hT hM hQ hN hX
  by_cases z : j = n
  · rw [z, pk_us, pk_us]
  · rw [pk_un z, pk_un z]; exact hA j hj
end
end
section
/-! the relation: messages, requests, answers -/
theorem zr_at {a : Nat → Int32} {c c' n : Nat} (hn : n < 6) : zr_ a c 6 (c' * 6 + n) = if c' = c then 0 else a (c' * 6 + n) := by
  unfold zr_
  by_cases z : c' = c
  · rw [if_pos (by omega), if_pos z]
  · rw [if_neg (by omega), if_neg z]
theorem zr_Lat {a : Nat → Int64} {c c' n : Nat} (hn : n < 6) : zr_L a c 6 (c' * 6 + n) = if c' = c then 0 else a (c' * 6 + n) := by
  unfold zr_L
  by_cases z : c' = c
  · rw [if_pos (by omega), if_pos z]
  · rw [if_neg (by omega), if_neg z]
theorem zr_id {a : Nat → Int32} {c : Nat} (h : ∀ n, n < 6 → a (c * 6 + n) = 0) : zr_ a c 6 = a := by
  funext j
  unfold zr_
  by_cases z : c * 6 ≤ j ∧ j < c * 6 + 6
  · rw [if_pos z]
    have w := h (j - c * 6) (by omega)
    rw [show c * 6 + (j - c * 6) = j from by omega] at w
    exact w.symm
  · rw [if_neg z]
theorem nI_ne1 {n : Nat} (h : n < 2 ^ 31) : ¬ nI n = -1 := by
  intro e
  have a : (nI n).toInt = (n : Int) := nI_toInt h
  rw [e] at a
  have b : (-1 : Int32).toInt = -1 := by decide
  omega
section
variable {N R K : Nat} {xlt xls xlc : Int64} {xrq xwq xpc : Int32} {xal xrg xkw xac xlv xrs xrk xry xro xra xrn xan xmk xmf xmt xmy xmg xmc xpn ybi ywn ywm ywv yal ymf ymt ymy ymg yme yph ypn : Nat → Int32} {xlp xst xhi xcx xaw xms : Nat → Int64}
variable {ex : Nat} {C : Nat → Nat} {D : Nat → Nat → Nat}
theorem q_free {s : Nat} (h : QR ex N R K C D xls xlc xal xrg xkw xac xlv xlp xst xhi xcx xrs xry xro xan xaw xmk xmf xmt xmy xmg xmc xms ybi ywn ywm ywv yal ymf ymt ymy ymg) : QR ex N R K C D xls xlc xal xrg xkw xac xlv xlp xst xhi xcx xrs xry xro xan xaw (upd xmk s 0) (upd xmf s (-1)) (upd xmt s (-1)) (upd xmy s (-1)) (upd xmg s (-1)) (upd xmc s (-1)) (vp_updL xms s 0) ybi ywn ywm ywv yal ymf ymt ymy ymg := by
  obtain ⟨hZ, hA, hO, hL, hB, hT, hM, hQ, hN, hX⟩ := h
  refine q_mk hZ hA hO hL hB hT (fun j hj => ?_) hQ hN hX
  by_cases z : j = s
  · rw [z]
    simp only [pk_us, pk_uLs]
    exact ⟨fun _ => ⟨rfl, rfl, rfl, rfl, rfl⟩, fun w => absurd rfl w⟩
  · simp only [pk_un z, pk_uLn z]
    exact hM j hj
theorem q_turn {s kk kn : Nat} (h : QR ex N R K C D xls xlc xal xrg xkw xac xlv xlp xst xhi xcx xrs xry xro xan xaw xmk xmf xmt xmy xmg xmc xms ybi ywn ywm ywv yal ymf ymt ymy ymg) (hs : s < 24) (hk : xmk s = nI kk) (hk0 : 0 < kk) (hk10 : kk < 10) (hn : kn < 10) (hn0 : 0 < kn) (hg : kn = 2 ∨ kn = 4 → kk = 2 ∨ kk = 4) : QR ex N R K C D xls xlc xal xrg xkw xac xlv xlp xst xhi xcx xrs xry xro xan xaw (upd xmk s (nI kn)) (upd xmf s (xmt s)) (upd xmt s (xmf s)) xmy xmg xmc xms ybi ywn ywm ywv yal (upd ymf s (ymt s)) (upd ymt s (ymf s)) ymy ymg := by
  obtain ⟨hZ, hA, hO, hL, hB, hT, hM, hQ, hN, hX⟩ := h
  refine q_mk hZ hA hO hL hB hT (fun j hj => ?_) hQ hN hX
  by_cases z : j = s
  · rw [z]
    simp only [pk_us]
    obtain ⟨k2, ff, tt, yy, a1, a2, a3, a4, a5, a6, a7, a8, a9, a10, a11, a12, a13, a14, a15⟩ := (hM s hs).2 (by rw [hk]; exact nI_ne0 hk0 (by omega))
    have e : k2 = kk := by
      rw [hk] at a2
      exact ((nI_eq (by omega) (by omega)).mp a2).symm
    subst e
    exact ⟨fun w => absurd w (nI_ne0 hn0 (by omega)), fun _ => ⟨kn, tt, ff, yy, hn, rfl, a4, a3, a5, a8, a9, a6, a7, a10, a11, a12, fun w => a13 (hg w), a14, a15⟩⟩
  · simp only [pk_un z]
    exact hM j hj
theorem q_ms {s yy r : Nat} {S : Int64} (h : QR ex N R K C D xls xlc xal xrg xkw xac xlv xlp xst xhi xcx xrs xry xro xan xaw xmk xmf xmt xmy xmg xmc xms ybi ywn ywm ywv yal ymf ymt ymy ymg) (hs : s < 24) (hk : ¬ xmk s = 0) (hy : yy < 4) (hmy : xmy s = nI yy) (hS : rr_ C D ybi yy S r) : QR ex N R K C D xls xlc xal xrg xkw xac xlv xlp xst xhi xcx xrs xry xro xan xaw xmk xmf xmt xmy xmg xmc (vp_updL xms s S) (cp_ ybi (r) ((184 + s))) ywn ywm ywv yal ymf ymt ymy ymg := by
  obtain ⟨hZ, hA, hO, hL, hB, hT, hM, hQ, hN, hX⟩ := h
  have g : ag_ ybi (cp_ ybi r (184 + s)) (184 + s) := ag_cp
  refine q_mk hZ hA hO (rl_ag g (by omega) hL) (rb_ag g (by omega) (cp_01 hB.1) hB) (rt_ag g (by omega) hT) (fun j hj => ?_) hQ (rn_ag g (by omega) hN) (rx_ag g (by omega) (by omega) hX)
  by_cases z : j = s
  · rw [z, pk_uLs]
    obtain ⟨k2, ff, tt, y2, a1, a2, a3, a4, a5, a6, a7, a8, a9, a10, a11, a12, a13, a14, a15⟩ := (hM s hs).2 hk
    have e : y2 = yy := by
      rw [hmy] at a10
      exact ((nI_eq (by omega) (by omega)).mp a10).symm
    subst e
    exact ⟨fun w => absurd w hk, fun _ => ⟨k2, ff, tt, y2, a1, a2, a3, a4, a5, a6, a7, a8, a9, a10, a11, a12, a13, a14, rr_cp hS⟩⟩
  · rw [pk_uLn z]
    exact mg_mono (fun yy _ => rr_ag g (by omega)) (fun cc _ _ w => ⟨w, rfl⟩) (hM j hj)
theorem q_put {s kk ff tt yy r : Nat} {g c : Int32} {S : Int64} (h : QR ex N R K C D xls xlc xal xrg xkw xac xlv xlp xst xhi xcx xrs xry xro xan xaw xmk xmf xmt xmy xmg xmc xms ybi ywn ywm ywv yal ymf ymt ymy ymg) (hs : s < 24) (hk0 : 0 < kk) (hk10 : kk < 10) (hf : ff < N) (ht : tt < N) (hy : yy < 4) (hg : kk = 2 ∨ kk = 4 → ∃ gg : Nat, gg < N ∧ g = nI gg) (hc : c = -1 ∨ ∃ cc : Nat, cc < 4 ∧ c = nI cc ∧ xrs cc = 1 ∧ xry cc = nI yy) (hS : rr_ C D ybi yy S r) : QR ex N R K C D xls xlc xal xrg xkw xac xlv xlp xst xhi xcx xrs xry xro xan xaw (upd xmk s (nI kk)) (upd xmf s (nI ff)) (upd xmt s (nI tt)) (upd xmy s (nI yy)) (upd xmg s g) (upd xmc s c) (vp_updL xms s S) (cp_ ybi (r) (184 + s)) ywn ywm ywv yal (upd ymf s (nI ff)) (upd ymt s (nI tt)) (upd ymy s (nI yy)) (upd ymg s g) := by
  obtain ⟨hZ, hA, hO, hL, hB, hT, hM, hQ, hN, hX⟩ := h
  have g1 : ag_ ybi (cp_ ybi r (184 + s)) (184 + s) := ag_cp
  refine q_mk hZ hA hO (rl_ag g1 (by omega) hL) (rb_ag g1 (by omega) (cp_01 hB.1) hB) (rt_ag g1 (by omega) hT) (fun j hj => ?_) hQ (rn_ag g1 (by omega) hN) (rx_ag g1 (by omega) (by omega) hX)
  by_cases z : j = s
  · rw [z]
    simp only [pk_us, pk_uLs]
    exact ⟨fun w => absurd w (nI_ne0 hk0 (by omega)), fun _ => ⟨kk, ff, tt, yy, hk10, rfl, hf, ht, hy, rfl, rfl, rfl, rfl, rfl, rfl, rfl, hg, hc, rr_cp hS⟩⟩
  · simp only [pk_un z, pk_uLn z]
    exact mg_mono (fun yy _ => rr_ag g1 (by omega)) (fun cc _ _ w => ⟨w, rfl⟩) (hM j hj)
theorem q_rec {c n yy r : Nat} {S : Int64} (h : QR ex N R K C D xls xlc xal xrg xkw xac xlv xlp xst xhi xcx xrs xry xro xan xaw xmk xmf xmt xmy xmg xmc xms ybi ywn ywm ywv yal ymf ymt ymy ymg) (hc : c < 4) (hn : n < 6) (hy : yy < 4) (hry : xry c = nI yy) (hst : c = ex ∨ xrs c = 1) (hS : rr_ C D ybi yy S r) : QR ex N R K C D xls xlc xal xrg xkw xac xlv xlp xst xhi xcx xrs xry xro (upd xan (c * 6 + n) 1) (vp_updL xaw (c * 6 + n) S) xmk xmf xmt xmy xmg xmc xms (cp_ ybi (r) (208 + c * 6 + n)) ywn ywm ywv yal ymf ymt ymy ymg := by
  obtain ⟨hZ, hA, hO, hL, hB, hT, hM, hQ, hN, hX⟩ := h
  have g1 : ag_ ybi (cp_ ybi r (208 + c * 6 + n)) (208 + c * 6 + n) := ag_cp
  refine q_mk hZ hA hO (rl_ag g1 (by omega) hL) (rb_ag g1 (by omega) (cp_01 hB.1) hB) (rt_ag g1 (by omega) hT) (rm_ag g1 (by omega) hM) (fun j hj => ⟨(hQ j hj).1, fun z1 z2 n' hn' => ?_⟩) (fun j hj n' hn' z1 => ?_) (rx_ag g1 (by omega) (by omega) hX)
  · have ne : ¬ j * 6 + n' = c * 6 + n := fun w => by
      have e : j = c := by omega
      rw [e] at z1 z2
      rcases hst with y | y
      · exact z1 y
      · exact z2 y
    rw [pk_un ne]
    exact (hQ j hj).2 z1 z2 n' hn'
  · by_cases w : j * 6 + n' = c * 6 + n
    · have e : j = c := by omega
      have e2 : n' = n := by omega
      rw [e, e2, pk_uLs]
      exact ⟨yy, hy, hry, rr_cp hS⟩
    · rw [pk_un w] at z1
      rw [pk_uLn w]
      obtain ⟨y, y1, y2, y3⟩ := hN j hj n' hn' z1
      exact ⟨y, y1, y2, rr_ag g1 (by omega) y3⟩
theorem q_disc {c : Nat} (h : QR c N R K C D xls xlc xal xrg xkw xac xlv xlp xst xhi xcx xrs xry xro xan xaw xmk xmf xmt xmy xmg xmc xms ybi ywn ywm ywv yal ymf ymt ymy ymg) : QR 4 N R K C D xls xlc xal xrg xkw xac xlv xlp xst xhi xcx xrs xry xro (zr_ xan c 6) (zr_L xaw c 6) xmk xmf xmt xmy xmg xmc xms ybi ywn ywm ywv yal ymf ymt ymy ymg := by
  obtain ⟨hZ, hA, hO, hL, hB, hT, hM, hQ, hN, hX⟩ := h
  refine q_mk hZ hA hO hL hB hT hM (fun j hj => ⟨(hQ j hj).1, fun _ z2 n' hn' => ?_⟩) (fun j hj n' hn' z1 => ?_) hX
  · rw [zr_at hn']
    by_cases w : j = c
    · rw [if_pos w]
    · rw [if_neg w]; exact (hQ j hj).2 w z2 n' hn'
  · rw [zr_at hn'] at z1
    rw [zr_Lat hn']
    by_cases w : j = c
    · rw [if_pos w] at z1; exact absurd rfl z1
    · rw [if_neg w] at z1
      rw [if_neg w]
      exact hN j hj n' hn' z1
theorem q_close {c : Nat} {q : Int32} (h : QR 4 N R K C D xls xlc xal xrg xkw xac xlv xlp xst xhi xcx xrs xry xro xan xaw xmk xmf xmt xmy xmg xmc xms ybi ywn ywm ywv yal ymf ymt ymy ymg) (hc : c < 4) (hq : ¬ q = 1) : QR c N R K C D xls xlc xal xrg xkw xac xlv xlp xst xhi xcx (upd xrs c q) xry xro xan xaw xmk xmf xmt xmy xmg (cl_ xmc c 24) xms ybi ywn ywm ywv yal ymf ymt ymy ymg := by
  obtain ⟨hZ, hA, hO, hL, hB, hT, hM, hQ, hN, hX⟩ := h
  refine q_mk hZ hA hO hL hB hT (fun j hj => ?_) (fun j hj => ?_) hN hX
  · have e : cl_ xmc c 24 j = if xmc j = nI c then -1 else xmc j := by
      unfold cl_
      by_cases w : xmc j = nI c
      · rw [if_pos ⟨hj, w⟩, if_pos w]
      · rw [if_neg (fun v => w v.2), if_neg w]
    rw [e]
    have m := hM j hj
    refine ⟨fun z => ?_, fun z => ?_⟩
    · obtain ⟨a1, a2, a3, a4, a5⟩ := m.1 z
      refine ⟨a1, a2, a3, a4, ?_⟩
      split
      · rfl
      · exact a5
    · obtain ⟨k2, ff, tt, y2, a1, a2, a3, a4, a5, a6, a7, a8, a9, a10, a11, a12, a13, a14, a15⟩ := m.2 z
      refine ⟨k2, ff, tt, y2, a1, a2, a3, a4, a5, a6, a7, a8, a9, a10, a11, a12, a13, ?_, a15⟩
      by_cases w : xmc j = nI c
      · rw [if_pos w]; exact Or.inl rfl
      · rw [if_neg w]
        rcases a14 with v | ⟨cc, v1, v2, v3, v4⟩
        · exact Or.inl v
        · refine Or.inr ⟨cc, v1, v2, ?_, v4⟩
          have ne : ¬ cc = c := fun y => w (by rw [v2, y])
          rw [pk_un ne]
          exact v3
  · by_cases w : j = c
    · subst w
      rw [pk_us]
      exact ⟨fun z => absurd z hq, fun z => absurd rfl z⟩
    · rw [pk_un w]
      exact ⟨(hQ j hj).1, fun _ z => (hQ j hj).2 (by omega) z⟩
theorem q_open {c y n : Nat} (h : QR 4 N R K C D xls xlc xal xrg xkw xac xlv xlp xst xhi xcx xrs xry xro xan xaw xmk xmf xmt xmy xmg xmc xms ybi ywn ywm ywv yal ymf ymt ymy ymg) (hc : c < 4) (hst : ¬ xrs c = 1) (hy : y < 4) (hn : n < N) : QR 4 N R K C D xls xlc xal xrg xkw xac xlv xlp xst xhi xcx (upd xrs c 1) (upd xry c (nI y)) (upd xro c (nI n)) xan (zr_L xaw c 6) xmk xmf xmt xmy xmg xmc xms ybi ywn ywm ywv yal ymf ymt ymy ymg := by
  obtain ⟨hZ, hA, hO, hL, hB, hT, hM, hQ, hN, hX⟩ := h
  refine q_mk hZ hA hO hL hB hT (fun j hj => mg_mono (fun _ _ w => w) (fun cc _ _ w => ?_) (hM j hj)) (fun j hj => ?_) (fun j hj n' hn' z1 => ?_) hX
  · have ne : ¬ cc = c := fun v => hst (by rw [← v]; exact w)
    rw [pk_un ne, pk_un ne]
    exact ⟨w, rfl⟩
  · by_cases w : j = c
    · subst w
      rw [pk_us, pk_us, pk_us]
      exact ⟨fun _ => ⟨y, n, hy, hn, rfl, rfl⟩, fun _ z => absurd rfl z⟩
    · rw [pk_un w, pk_un w, pk_un w]
      exact hQ j hj
  · have ne : ¬ j = c := fun w => by
      subst w
      exact z1 ((hQ j hj).2 (by omega) hst n' hn')
    rw [pk_un ne, zr_Lat hn', if_neg ne]
    exact hN j hj n' hn' z1
/-! the lens -/
def cv_ (xlp : Nat → Int64) (S : Int64) (k : Nat) : Nat → Int64
  | 0 => 0
  | n + 1 => jn_ (cv_ xlp S k n) (xlp ((k * 6 + n) * 41 + ln_ S n))
theorem q_cv {k r : Nat} {S : Int64} (h : QR ex N R K C D xls xlc xal xrg xkw xac xlv xlp xst xhi xcx xrs xry xro xan xaw xmk xmf xmt xmy xmg xmc xms ybi ywn ywm ywv yal ymf ymt ymy ymg) (hk : k < 4) (hS : rr_ C D ybi k S r) : ∀ n, n ≤ N → rs_p (C k) (D k) (cv_ xlp S k n) (fun i => ∃ z, z < C k ∧ D k z < n ∧ ct_n (D k) (D k z) z < ln_ S (D k z) ∧ ¬ ybi ((235 + k * 40 + z) * 40 + i) = 0) := by
  have cx := q_cx h hk
  obtain ⟨hZ, hA, hO, hL, hB, hT, hM, hQ, hN, hX⟩ := h
  obtain ⟨_, _, _, _, h5⟩ := hL k hk
  intro n
  induction n with
  | zero =>
    intro _
    exact rs_cg rs_0 (fun i _ => ⟨fun ⟨z, _, w, _⟩ => absurd w (Nat.not_lt_zero _), fun w => w.elim⟩)
  | succ n ih =>
    intro hn
    have b := hS.1 n (by have := hZ.2.1; omega)
    refine rs_cg (rs_join cx (ih (by omega)) ((h5 n (by omega)).2 (ln_ S n) b)) (fun i _ => ?_)
    constructor
    · rintro ⟨z, z1, z2, z3, z4⟩
      by_cases w : D k z = n
      · refine Or.inr ⟨z, z1, w, ?_, z4⟩
        rw [w] at z3
        exact z3
      · exact Or.inl ⟨z, z1, by omega, z3, z4⟩
    · rintro (⟨z, z1, z2, z3, z4⟩ | ⟨z, z1, z2, z3, z4⟩)
      · exact ⟨z, z1, by omega, z3, z4⟩
      · exact ⟨z, z1, by omega, by rw [z2]; exact z3, z4⟩
theorem q_lens {k r : Nat} {S : Int64} (h : QR ex N R K C D xls xlc xal xrg xkw xac xlv xlp xst xhi xcx xrs xry xro xan xaw xmk xmf xmt xmy xmg xmc xms ybi ywn ywm ywv yal ymf ymt ymy ymg) (hk : k < 4) (hr : r ≠ 232) (hr2 : r < 235) (hS : rr_ C D ybi k S r) : QR ex N R k C D S (cv_ xlp S k N) xal xrg xkw xac xlv xlp xst xhi xcx xrs xry xro xan xaw xmk xmf xmt xmy xmg xmc xms (cp_ ybi (r) (232)) ywn ywm ywv yal ymf ymt ymy ymg := by
  have c := q_cv h hk hS N (Nat.le_refl _)
  obtain ⟨hZ, hA, hO, hL, hB, hT, hM, hQ, hN, hX⟩ := h
  obtain ⟨h1, h2, _⟩ := hL k hk
  have g1 : ag_ ybi (cp_ ybi r 232) 232 := ag_cp
  refine q_mk hZ hA hO (rl_ag g1 (by omega) hL) (rb_ag g1 (by omega) (cp_01 hB.1) hB) (rt_ag g1 (by omega) hT) (rm_ag g1 (by omega) hM) hQ (rn_ag g1 (by omega) hN) ⟨hk, rr_cp hS, rs_cg c (fun i hi => ?_)⟩
  have e : ∀ t, t < 40 → cp_ ybi r 232 (232 * 40 + t) = ybi (r * 40 + t) := fun t ht => wr_y ht
  constructor
  · rintro ⟨t, t1, t2, t3⟩
    rw [e t t1] at t2
    rw [g1 (235 + k * 40 + t) (by omega) i hi] at t3
    have p := (hS.2 t t1).mp t2
    exact ⟨t, p.1, h2 t p.1, p.2, t3⟩
  · rintro ⟨z, z1, z2, z3, z4⟩
    have z40 : z < 40 := by omega
    refine ⟨z, z40, ?_, ?_⟩
    · rw [e z z40]
      exact (hS.2 z z40).mpr ⟨z1, z3⟩
    · rw [g1 (235 + k * 40 + z) (by omega) i hi]
      exact z4
end
end
section
/-! a write is accepted: the log grows by one -/
def ca_ (C : Nat → Nat) (y : Nat) : Nat → Nat := fun k => if k = y then C y + 1 else C k
def da_ (C : Nat → Nat) (D : Nat → Nat → Nat) (y o : Nat) : Nat → Nat → Nat := fun k j => if k = y ∧ j = C y then o else D k j
def ya_ (b : Nat → Int32) (ra rb rc i : Nat) : Nat → Int32 := upd (jr_ (cp_ b ra rb) ra rc) (rc * 40 + i) 1
section
variable {C : Nat → Nat} {D : Nat → Nat → Nat} {y o k : Nat} {b : Nat → Int32} {ra rb rc i : Nat}
theorem ca_y : ca_ C y y = C y + 1 := if_pos rfl
theorem ca_n (h : ¬ k = y) : ca_ C y k = C k := if_neg h
theorem da_n (h : ¬ k = y) : da_ C D y o k = D k := by
  funext j
  exact if_neg (fun w => h w.1)
theorem da_l {j : Nat} (h : ¬ j = C y) : da_ C D y o y j = D y j := if_neg (fun w => h w.2)
theorem da_c : da_ C D y o y (C y) = o := if_pos ⟨rfl, rfl⟩
theorem ps_ext {S : Int64} {P : Nat → Prop} (ho : o < 8) (h : rs_p (C k) (D k) S P) : rs_p (ca_ C y k) (da_ C D y o k) S P := by
  by_cases z : k = y
  · subst z
    rw [ca_y]
    exact rs_ext h (fun i hi => da_l (by omega)) (by rw [da_c]; exact ho)
  · rw [ca_n z, da_n z]
    exact h
theorem ya_o {r t : Nat} (hi : i < 40) (ht : t < 40) (h1 : r ≠ rb) (h2 : r ≠ rc) : ya_ b ra rb rc i (r * 40 + t) = b (r * 40 + t) := by
  unfold ya_
  rw [pk_un (by omega)]
  unfold jr_
  rw [wr_n ht h2]
  unfold cp_
  rw [wr_n ht h1]
theorem ya_b {t : Nat} (hi : i < 40) (ht : t < 40) (h : rb ≠ rc) : ya_ b ra rb rc i (rb * 40 + t) = b (ra * 40 + t) := by
  unfold ya_
  rw [pk_un (by omega)]
  unfold jr_
  rw [wr_n ht h]
  unfold cp_
  rw [wr_y ht]
theorem ya_c {t : Nat} (ht : t < 40) (h : rc ≠ rb) (h2 : ra ≠ rb) (hn : ¬ t = i) : ya_ b ra rb rc i (rc * 40 + t) = if b (ra * 40 + t) = 0 then b (rc * 40 + t) else 1 := by
  unfold ya_
  rw [pk_un (by omega)]
  unfold jr_
  rw [wr_y ht]
  unfold cp_
  rw [wr_n ht h2, wr_n ht h]
theorem ya_i : ya_ b ra rb rc i (rc * 40 + i) = 1 := pk_us
theorem ya_01 (hb : ∀ j, b j = 0 ∨ b j = 1) : ∀ j, ya_ b ra rb rc i j = 0 ∨ ya_ b ra rb rc i j = 1 := by
  intro j
  unfold ya_
  by_cases z : j = rc * 40 + i
  · rw [z, pk_us]; exact Or.inr rfl
  · rw [pk_un z]; exact jr_01 (cp_01 hb) j
theorem ps_row {S : Int64} {r : Nat} (ho : o < 8) (hi : i < 40) (h1 : r ≠ rb) (h2 : r ≠ rc) (h : rr_ C D b k S r) : rr_ (ca_ C y) (da_ C D y o) (ya_ b ra rb rc i) k S r :=
  rs_cg (ps_ext ho h) (fun t ht => by
    show ¬ ya_ b ra rb rc i (r * 40 + t) = 0 ↔ ¬ b (r * 40 + t) = 0
    rw [ya_o hi ht h1 h2])
end
section
variable {N R K : Nat} {xlt xls xlc : Int64} {xrq xwq xpc : Int32} {xal xrg xkw xac xlv xrs xrk xry xro xra xrn xan xmk xmf xmt xmy xmg xmc xpn ybi ywn ywm ywv yal ymf ymt ymy ymg yme yph ypn : Nat → Int32} {xlp xst xhi xcx xaw xms : Nat → Int64}
variable {ex : Nat} {C : Nat → Nat} {D : Nat → Nat → Nat}
theorem q_acc_l {c y o : Nat} {w : Int32} (h : QR ex N R K C D xls xlc xal xrg xkw xac xlv xlp xst xhi xcx xrs xry xro xan xaw xmk xmf xmt xmy xmg xmc xms ybi ywn ywm ywv yal ymf ymt ymy ymg) (hc : c < 4) (hy : y < 4) (ho : o < N) (hC : C y < 40) : rl_ N (ca_ C y) (da_ C D y o) (upd xkw y (xkw y + 1)) (upd xac (y * 6 + o) (nI (ct_n (D y) o (C y) + 1))) (upd xlv ((y * 6 + o) * 41 + (ct_n (D y) o (C y) + 1)) w) (vp_updL xlp ((y * 6 + o) * 41 + (ct_n (D y) o (C y) + 1)) (jn_ (xlp ((y * 6 + o) * 41 + ct_n (D y) o (C y))) (xcx (c * 4 + y)))) (upd ywn (y * 40 + C y) (nI o)) (upd ywm (y * 40 + C y) (nI (ct_n (D y) o (C y) + 1))) (upd ywv (y * 40 + C y) w) (ya_ ybi (168 + c * 4 + y) (235 + y * 40 + C y) (o * 4 + y) (C y)) := by
  have cx := q_cx h hy
  have hcx := q_cxt h hy hc
  obtain ⟨hZ, hA, hO, hL, hB, hT, hM, hQ, hN, hX⟩ := h
  have h6 := hZ.2.1
  have mle := ct_le (D y) o (C y)
  intro k hk
  obtain ⟨h1, h2, h3, h4, h5⟩ := hL k hk
  by_cases z : k = y
  · subst z
    have cC : ∀ n, ct_n (da_ C D k o k) n (C k) = ct_n (D k) n (C k) := fun n => ct_cg (fun i hi => da_l (by omega))
    have cI : ∀ n i, i < C k → ct_n (da_ C D k o k) n i = ct_n (D k) n i := fun n i hi => ct_cg (fun j hj => da_l (by omega))
    rw [ca_y]
    refine ⟨by omega, fun i hi => ?_, ?_, fun i hi => ?_, fun n hn => ?_⟩
    · by_cases e : i = C k
      · rw [e, da_c]; exact ho
      · rw [da_l e]; exact h2 i (by omega)
    · rw [pk_us, h3, nI_1]
    · by_cases e : i = C k
      · rw [e, da_c, cC, pk_us, pk_us, pk_us, pk_us]
        exact ⟨rfl, rfl, rfl⟩
      · have hi2 : i < C k := by omega
        have dl := h2 i hi2
        have il := ct_le (D k) (D k i) i
        rw [da_l e, cI _ i hi2, pk_un (show ¬ k * 40 + i = k * 40 + C k by omega), pk_un (show ¬ k * 40 + i = k * 40 + C k by omega), pk_un (show ¬ k * 40 + i = k * 40 + C k by omega)]
        rw [pk_un (show ¬ (k * 6 + D k i) * 41 + (ct_n (D k) (D k i) i + 1) = (k * 6 + o) * 41 + (ct_n (D k) o (C k) + 1) from fun v => by
          have e1 : D k i = o := by omega
          have e2 := ct_lt e1 hi2
          rw [e1] at v
          omega)]
        exact h4 i hi2
    · have bn := ct_le (D k) n (C k)
      by_cases e : n = o
      · subst e
        rw [pk_us, ct_t da_c, cC]
        refine ⟨rfl, fun m hm => ?_⟩
        by_cases e2 : m = ct_n (D k) n (C k) + 1
        · subst e2
          rw [pk_uLs]
          have j1 := ps_ext (C := C) (D := D) (y := k) (o := n) (k := k) (by omega) ((h5 n hn).2 (ct_n (D k) n (C k)) (Nat.le_refl _))
          have j2 := ps_ext (C := C) (D := D) (y := k) (o := n) (k := k) (by omega) hcx
          rw [ca_y] at j1 j2
          have cx2 : cx_ (C k + 1) (da_ C D k n k) := ⟨by omega, fun i hi => by
            by_cases e : i = C k
            · rw [e, da_c]; omega
            · rw [da_l e]; have := h2 i (by omega); omega⟩
          refine rs_cg (rs_join cx2 j1 j2) (fun i hi => ?_)
          constructor
          · rintro ⟨x, x1, x2, x3, x4⟩
            by_cases ex : x = C k
            · rw [ex, ya_b (by omega) hi (by omega)] at x4
              exact Or.inr x4
            · rw [da_l ex] at x2
              rw [cI n x (by omega)] at x3
              rw [ya_o (by omega) hi (by omega) (by omega)] at x4
              exact Or.inl ⟨x, by omega, x2, ct_lt x2 (by omega), x4⟩
          · rintro (⟨x, x1, x2, x3, x4⟩ | x4)
            · refine ⟨x, by omega, ?_, ?_, ?_⟩
              · rw [da_l (by omega)]; exact x2
              · rw [cI n x x1]; omega
              · rw [ya_o (by omega) hi (by omega) (by omega)]; exact x4
            · refine ⟨C k, by omega, da_c, ?_, ?_⟩
              · rw [cC]; omega
              · rw [ya_b (by omega) hi (by omega)]; exact x4
        · rw [pk_uLn (by omega)]
          have j1 := ps_ext (C := C) (D := D) (y := k) (o := n) (k := k) (by omega) ((h5 n hn).2 m (by omega))
          rw [ca_y] at j1
          refine rs_cg j1 (fun i hi => ?_)
          constructor
          · rintro ⟨x, x1, x2, x3, x4⟩
            by_cases ex : x = C k
            · rw [ex, cC] at x3
              omega
            · rw [da_l ex] at x2
              rw [cI n x (by omega)] at x3
              rw [ya_o (by omega) hi (by omega) (by omega)] at x4
              exact ⟨x, by omega, x2, x3, x4⟩
          · rintro ⟨x, x1, x2, x3, x4⟩
            refine ⟨x, by omega, ?_, ?_, ?_⟩
            · rw [da_l (by omega)]; exact x2
            · rw [cI n x x1]; exact x3
            · rw [ya_o (by omega) hi (by omega) (by omega)]; exact x4
      · rw [pk_un (by omega), ct_f (by rw [da_c]; exact fun v => e v.symm), cC]
        refine ⟨(h5 n hn).1, fun m hm => ?_⟩
        rw [pk_uLn (by omega)]
        have j1 := ps_ext (C := C) (D := D) (y := k) (o := o) (k := k) (by omega) ((h5 n hn).2 m hm)
        rw [ca_y] at j1
        refine rs_cg j1 (fun i hi => ?_)
        constructor
        · rintro ⟨x, x1, x2, x3, x4⟩
          by_cases ex : x = C k
          · rw [ex, da_c] at x2
            exact absurd x2.symm e
          · rw [da_l ex] at x2
            rw [cI n x (by omega)] at x3
            rw [ya_o (by omega) hi (by omega) (by omega)] at x4
            exact ⟨x, by omega, x2, x3, x4⟩
        · rintro ⟨x, x1, x2, x3, x4⟩
          refine ⟨x, by omega, ?_, ?_, ?_⟩
          · rw [da_l (by omega)]; exact x2
          · rw [cI n x x1]; exact x3
          · rw [ya_o (by omega) hi (by omega) (by omega)]; exact x4
  · rw [ca_n z, da_n z]
    refine ⟨h1, h2, ?_, fun i hi => ?_, fun n hn => ?_⟩
    · rw [pk_un z]; exact h3
    · have dl := h2 i hi
      have il := ct_le (D k) (D k i) i
      rw [pk_un (show ¬ k * 40 + i = y * 40 + C y by omega), pk_un (show ¬ k * 40 + i = y * 40 + C y by omega), pk_un (show ¬ k * 40 + i = y * 40 + C y by omega), pk_un (show ¬ (k * 6 + D k i) * 41 + (ct_n (D k) (D k i) i + 1) = (y * 6 + o) * 41 + (ct_n (D y) o (C y) + 1) by omega)]
      exact h4 i hi
    · have bn := ct_le (D k) n (C k)
      rw [pk_un (by omega)]
      refine ⟨(h5 n hn).1, fun m hm => ?_⟩
      rw [pk_uLn (by omega)]
      refine rs_cg ((h5 n hn).2 m hm) (fun i hi => ?_)
      constructor
      · rintro ⟨x, x1, x2, x3, x4⟩
        rw [ya_o (by omega) hi (by omega) (by omega)] at x4
        exact ⟨x, x1, x2, x3, x4⟩
      · rintro ⟨x, x1, x2, x3, x4⟩
        refine ⟨x, x1, x2, x3, ?_⟩
        rw [ya_o (by omega) hi (by omega) (by omega)]; exact x4
theorem q_acc_t {c y o : Nat} (h : QR ex N R K C D xls xlc xal xrg xkw xac xlv xlp xst xhi xcx xrs xry xro xan xaw xmk xmf xmt xmy xmg xmc xms ybi ywn ywm ywv yal ymf ymt ymy ymg) (hc : c < 4) (hy : y < 4) (ho : o < N) (hC : C y < 40) : rt_ N (ca_ C y) (da_ C D y o) (ya_ ybi (168 + c * 4 + y) (235 + y * 40 + C y) (o * 4 + y) (C y)) (vp_updL (vp_updL xst (o * 4 + y) (jn_ (xst (o * 4 + y)) (xcx (c * 4 + y)))) (o * 4 + y) (jn_ (vp_updL xst (o * 4 + y) (jn_ (xst (o * 4 + y)) (xcx (c * 4 + y))) (o * 4 + y)) ((nI (ct_n (D y) o (C y) + 1)).toInt64 <<< ((nI o * 8).toInt64 &&& 63)))) xhi xcx := by
  have cx := q_cx h hy
  have hcx := q_cxt h hy hc
  obtain ⟨hZ, hA, hO, hL, hB, hT, hM, hQ, hN, hX⟩ := h
  have h6 := hZ.2.1
  have mle := ct_le (D y) o (C y)
  obtain ⟨h1, h2, _⟩ := hL y hy
  have hst : rr_ C D ybi y (xst (o * 4 + y)) (o * 4 + y) := by
    have a := hT.1 (o * 4 + y) (by omega)
    rw [show (o * 4 + y) % 4 = y from by omega] at a
    exact a
  have own := hT.2.2.2 y hy o ho
  have cC : ∀ n, ct_n (da_ C D y o y) n (C y) = ct_n (D y) n (C y) := fun n => ct_cg (fun i hi => da_l (by omega))
  have cI : ∀ n i, i < C y → ct_n (da_ C D y o y) n i = ct_n (D y) n i := fun n i hi => ct_cg (fun j hj => da_l (by omega))
  have cx2 : cx_ (ca_ C y y) (da_ C D y o y) := by
    rw [ca_y]
    refine ⟨by omega, fun i hi => ?_⟩
    by_cases e : i = C y
    · rw [e, da_c]; omega
    · rw [da_l e]; have := h2 i (by omega); omega
  have j1 := ps_ext (C := C) (D := D) (y := y) (o := o) (k := y) (by omega) hst
  have j2 := ps_ext (C := C) (D := D) (y := y) (o := o) (k := y) (by omega) hcx
  have j3 : rs_p (ca_ C y y) (da_ C D y o y) ((nI (ct_n (D y) o (C y) + 1)).toInt64 <<< ((nI o * 8).toInt64 &&& 63)) (fun i => i < ca_ C y y ∧ da_ C D y o y i = o ∧ ct_n (da_ C D y o y) o i < ct_n (D y) o (C y) + 1) :=
    rs_dot cx2 (by omega) (by omega) (by rw [ca_y, ct_t da_c, cC]; exact Nat.le_refl _)
  have j12 := rs_join cx2 j1 j2
  have j := rs_join cx2 j12 j3
  refine ⟨fun q hq => ?_, fun q hq => ps_row (by omega) hC (by omega) (by omega) (hT.2.1 q hq), fun q hq => ps_row (by omega) hC (by omega) (by omega) (hT.2.2.1 q hq), fun k hk n hn => ?_⟩
  · by_cases z : q = o * 4 + y
    · subst z
      rw [pk_uLs, pk_uLs, show (o * 4 + y) % 4 = y from by omega]
      refine rs_cg j (fun i hi => ?_)
      show ¬ ya_ ybi (168 + c * 4 + y) (235 + y * 40 + C y) (o * 4 + y) (C y) ((o * 4 + y) * 40 + i) = 0 ↔ (¬ ybi ((o * 4 + y) * 40 + i) = 0 ∨ ¬ ybi ((168 + c * 4 + y) * 40 + i) = 0) ∨ (i < ca_ C y y ∧ da_ C D y o y i = o ∧ ct_n (da_ C D y o y) o i < ct_n (D y) o (C y) + 1)
      by_cases e : i = C y
      · rw [e, ya_i, ca_y, cC, da_c]
        exact ⟨fun _ => Or.inr ⟨by omega, rfl, by omega⟩, fun _ => by decide⟩
      · rw [ya_c hi (by omega) (by omega) e]
        constructor
        · intro v
          by_cases u : ybi ((168 + c * 4 + y) * 40 + i) = 0
          · rw [if_pos u] at v
            exact Or.inl (Or.inl v)
          · exact Or.inl (Or.inr u)
        · intro v
          by_cases u : ybi ((168 + c * 4 + y) * 40 + i) = 0
          · rw [if_pos u]
            rcases v with (v | v) | ⟨v1, v2, v3⟩
            · exact v
            · exact absurd u v
            · rw [ca_y] at v1
              rw [da_l e] at v2
              have il : i < C y := by omega
              have lt := ct_lt v2 il
              exact (hst.2 i hi).mpr ⟨il, by rw [v2, own]; exact lt⟩
          · rw [if_neg u]
            decide
    · rw [pk_uLn z, pk_uLn z]
      exact ps_row (by omega) hC (by omega) z (hT.1 q hq)
  · by_cases z : k = y
    · subst z
      by_cases e : n = o
      · subst e
        rw [pk_uLs, pk_uLs, ln_jn (rs_ok cx2 j12) (rs_ok cx2 j3) (by omega), ln_dot (by omega) (by omega) (by omega), if_pos rfl, ca_y, ct_t da_c, cC]
        have b12 := (rs_join cx hst hcx).1 n (by omega)
        rw [if_neg (by omega)]
      · rw [pk_uLn (by omega), pk_uLn (by omega), ca_y, ct_f (by rw [da_c]; exact fun v => e v.symm), cC]
        exact hT.2.2.2 k hk n hn
    · rw [pk_uLn (by omega), pk_uLn (by omega), ca_n z, da_n z]
      exact hT.2.2.2 k hk n hn
theorem q_acc {c y o : Nat} {w : Int32} (h : QR ex N R K C D xls xlc xal xrg xkw xac xlv xlp xst xhi xcx xrs xry xro xan xaw xmk xmf xmt xmy xmg xmc xms ybi ywn ywm ywv yal ymf ymt ymy ymg) (hc : c < 4) (hy : y < 4) (ho : o < N) (hC : C y < 40) : QR ex N R K (ca_ C y) (da_ C D y o) xls xlc xal xrg (upd xkw y (xkw y + 1)) (upd xac (y * 6 + o) (nI ((ct_n (D y) o (C y)) + 1))) (upd xlv ((y * 6 + o) * 41 + ((ct_n (D y) o (C y)) + 1)) w) (vp_updL xlp ((y * 6 + o) * 41 + ((ct_n (D y) o (C y)) + 1)) (jn_ (xlp ((y * 6 + o) * 41 + (ct_n (D y) o (C y)))) (xcx (c * 4 + y)))) (vp_updL (vp_updL xst (o * 4 + y) (jn_ (xst (o * 4 + y)) (xcx (c * 4 + y)))) (o * 4 + y) (jn_ (vp_updL xst (o * 4 + y) (jn_ (xst (o * 4 + y)) (xcx (c * 4 + y))) (o * 4 + y)) ((nI ((ct_n (D y) o (C y)) + 1)).toInt64 <<< ((nI o * 8).toInt64 &&& 63)))) xhi xcx xrs xry xro xan xaw xmk xmf xmt xmy xmg xmc xms (ya_ ybi (168 + c * 4 + y) (235 + y * 40 + C y) (o * 4 + y) (C y)) (upd ywn (y * 40 + C y) (nI o)) (upd ywm (y * 40 + C y) (nI (ct_n (D y) o (C y) + 1))) (upd ywv (y * 40 + C y) w) yal ymf ymt ymy ymg := by
  have hl := q_acc_l (w := w) h hc hy ho hC
  have ht := q_acc_t h hc hy ho hC
  obtain ⟨hZ, hA, hO, hL, hB, hT, hM, hQ, hN, hX⟩ := h
  have h6 := hZ.2.1
  refine q_mk hZ hA hO hl ⟨ya_01 hB.1, fun i hi => ?_⟩ ht (fun s hs => mg_mono (fun yy _ => ps_row (by omega) hC (by omega) (by omega)) (fun cc _ _ z => ⟨z, rfl⟩) (hM s hs)) hQ (fun c' hc' n hn z => ?_) ⟨hX.1, ps_row (by omega) hC (by omega) (by omega) hX.2.1, rs_cg (ps_ext (by omega) hX.2.2) (fun i hi => ?_)⟩
  · rw [ya_o hC hi (by omega) (by omega)]
    exact hB.2 i hi
  · obtain ⟨yy, y1, y2, y3⟩ := hN c' hc' n hn z
    exact ⟨yy, y1, y2, ps_row (by omega) hC (by omega) (by omega) y3⟩
  · have hK := hX.1
    constructor
    · rintro ⟨t, t1, t2, t3⟩
      rw [ya_o hC t1 (by omega) (by omega)] at t2
      have tC := rs_out hX.2.1 t1 t2
      rw [ya_o hC hi (fun v => by
        have e1 : K = y := by omega
        rw [e1] at tC
        omega) (by omega)] at t3
      exact ⟨t, t1, t2, t3⟩
    · rintro ⟨t, t1, t2, t3⟩
      have tC := rs_out hX.2.1 t1 t2
      refine ⟨t, t1, ?_, ?_⟩
      · rw [ya_o hC t1 (by omega) (by omega)]; exact t2
      · rw [ya_o hC hi (fun v => by
          have e1 : K = y := by omega
          rw [e1] at tC
          omega) (by omega)]
        exact t3
end
end
section
/-! the plan: the pure picture -/
def nx_ (a : Nat → Int32) (N k : Nat) : Nat → Nat → Nat
  | 0, q => q
  | d + 1, q => if a (od_ N k q) = 0 then nx_ a N k d (q + 1) else q
def pc_ (a : Nat → Int32) (N R k : Nat) : Nat → Nat
  | 0 => R
  | i + 1 => if a (od_ N k i) = 0 then (if nx_ a N k (N - pc_ a N R k i) (pc_ a N R k i) < N then nx_ a N k (N - pc_ a N R k i) (pc_ a N R k i) + 1 else N) else pc_ a N R k i
def ns_ (a : Nat → Int32) (N R k i : Nat) : Nat := nx_ a N k (N - pc_ a N R k i) (pc_ a N R k i)
def pl_ (a : Nat → Int32) (N R k i : Nat) : Int32 := if a (od_ N k i) = 0 then (if ns_ a N R k i < N then nI (od_ N k (ns_ a N R k i)) else -1) else nI (od_ N k i)
section
variable {a : Nat → Int32} {N R k : Nat}
theorem nx_sp : ∀ d q, q + d = N → q ≤ nx_ a N k d q ∧ nx_ a N k d q ≤ N ∧ (∀ j, q ≤ j → j < nx_ a N k d q → a (od_ N k j) = 0) ∧ (nx_ a N k d q < N → ¬ a (od_ N k (nx_ a N k d q)) = 0)
  | 0, q, h => by
    simp only [nx_]
    exact ⟨Nat.le_refl _, by omega, fun j h1 h2 => by omega, fun h1 => by omega⟩
  | d + 1, q, h => by
    by_cases z : a (od_ N k q) = 0
    · have e : nx_ a N k (d + 1) q = nx_ a N k d (q + 1) := by simp only [nx_]; rw [if_pos z]
      rw [e]
      obtain ⟨h1, h2, h3, h4⟩ := nx_sp d (q + 1) (by omega)
      refine ⟨by omega, h2, fun j j1 j2 => ?_, h4⟩
      by_cases y : j = q
      · rw [y]; exact z
      · exact h3 j (by omega) j2
    · have e : nx_ a N k (d + 1) q = q := by simp only [nx_]; rw [if_neg z]
      rw [e]
      exact ⟨Nat.le_refl _, by omega, fun j h1 h2 => by omega, fun _ => z⟩
theorem pc_f {i : Nat} (h : ¬ a (od_ N k i) = 0) : pc_ a N R k (i + 1) = pc_ a N R k i := by
  simp only [pc_]
  rw [if_neg h]
theorem pc_t {i : Nat} (h : a (od_ N k i) = 0) (h2 : ns_ a N R k i < N) : pc_ a N R k (i + 1) = ns_ a N R k i + 1 := by
  unfold ns_ at h2 ⊢
  simp only [pc_]
  rw [if_pos h, if_pos h2]
theorem pc_n {i : Nat} (h : a (od_ N k i) = 0) (h2 : ¬ ns_ a N R k i < N) : pc_ a N R k (i + 1) = N := by
  unfold ns_ at h2
  simp only [pc_]
  rw [if_pos h, if_neg h2]
theorem pl_f {i : Nat} (h : ¬ a (od_ N k i) = 0) : pl_ a N R k i = nI (od_ N k i) := if_neg h
theorem pl_t {i : Nat} (h : a (od_ N k i) = 0) (h2 : ns_ a N R k i < N) : pl_ a N R k i = nI (od_ N k (ns_ a N R k i)) := by
  unfold pl_
  rw [if_pos h, if_pos h2]
theorem pl_n {i : Nat} (h : a (od_ N k i) = 0) (h2 : ¬ ns_ a N R k i < N) : pl_ a N R k i = -1 := by
  unfold pl_
  rw [if_pos h, if_neg h2]
theorem od_ne {p q : Nat} (h : rz_ N R) (hk : k < 4) (hp : p < N) (hq : q < N) (hn : p ≠ q) : ¬ nI (od_ N k p) = nI (od_ N k q) := by
  intro e
  have a1 := od_lt h.1 h.2.1 hk hp
  have a2 := od_lt h.1 h.2.1 hk hq
  have h6 := h.2.1
  exact hn (od_inj h.1 h.2.1 hk hp hq ((nI_eq (by omega) (by omega)).mp e))
theorem pv_ (h : rz_ N R) (hk : k < 4) : ∀ i, i ≤ R → R ≤ pc_ a N R k i ∧ pc_ a N R k i ≤ N ∧ (∀ s, R ≤ s → s < pc_ a N R k i → ¬ a (od_ N k s) = 0 → ∃ j, j < i ∧ pl_ a N R k j = nI (od_ N k s)) ∧ (∀ s, pc_ a N R k i ≤ s → s < N → ∀ j, j < i → ¬ pl_ a N R k j = nI (od_ N k s))
  | 0, _ => ⟨Nat.le_refl _, h.2.2.2, fun s s1 s2 => absurd s2 (Nat.not_lt.mpr s1), fun s _ _ j hj => absurd hj (Nat.not_lt_zero _)⟩
  | i + 1, hi => by
    obtain ⟨h1, h2, h3, h4⟩ := pv_ h hk i (by omega)
    have hR := h.2.2.2
    by_cases z : a (od_ N k i) = 0
    · have sp : pc_ a N R k i ≤ ns_ a N R k i ∧ ns_ a N R k i ≤ N ∧ (∀ j, pc_ a N R k i ≤ j → j < ns_ a N R k i → a (od_ N k j) = 0) ∧ (ns_ a N R k i < N → ¬ a (od_ N k (ns_ a N R k i)) = 0) := nx_sp (N - pc_ a N R k i) (pc_ a N R k i) (by omega)
      obtain ⟨s1, s2, s3, s4⟩ := sp
      by_cases y : ns_ a N R k i < N
      · rw [pc_t z y]
        refine ⟨by omega, by omega, fun s b1 b2 b3 => ?_, fun s b1 b2 j b3 => ?_⟩
        · by_cases w : s < pc_ a N R k i
          · obtain ⟨j, j1, j2⟩ := h3 s b1 w b3
            exact ⟨j, by omega, j2⟩
          · by_cases v : s = ns_ a N R k i
            · exact ⟨i, by omega, by rw [pl_t z y, v]⟩
            · exact absurd (s3 s (by omega) (by omega)) b3
        · by_cases w : j = i
          · rw [w, pl_t z y]
            exact od_ne h hk y b2 (by omega)
          · exact h4 s (by omega) b2 j (by omega)
      · rw [pc_n z y]
        refine ⟨by omega, Nat.le_refl _, fun s b1 b2 b3 => ?_, fun s b1 b2 j b3 => by omega⟩
        by_cases w : s < pc_ a N R k i
        · obtain ⟨j, j1, j2⟩ := h3 s b1 w b3
          exact ⟨j, by omega, j2⟩
        · exact absurd (s3 s (by omega) (by omega)) b3
    · rw [pc_f z]
      refine ⟨h1, h2, fun s b1 b2 b3 => ?_, fun s b1 b2 j b3 => ?_⟩
      · obtain ⟨j, j1, j2⟩ := h3 s b1 b2 b3
        exact ⟨j, by omega, j2⟩
      · by_cases w : j = i
        · rw [w, pl_f z]
          exact od_ne h hk (by omega) b2 (by omega)
        · exact h4 s b1 b2 j (by omega)
theorem ns_sp {i : Nat} (h : rz_ N R) (hk : k < 4) (hi : i ≤ R) : pc_ a N R k i ≤ ns_ a N R k i ∧ ns_ a N R k i ≤ N ∧ (∀ j, pc_ a N R k i ≤ j → j < ns_ a N R k i → a (od_ N k j) = 0) ∧ (ns_ a N R k i < N → ¬ a (od_ N k (ns_ a N R k i)) = 0) := by
  obtain ⟨h1, h2, _⟩ := pv_ (a := a) h hk i hi
  exact nx_sp (N - pc_ a N R k i) (pc_ a N R k i) (by omega)
theorem pl_v {i : Nat} (h : rz_ N R) (hk : k < 4) (hi : i < R) : pl_ a N R k i = -1 ∨ ∃ n, n < N ∧ pl_ a N R k i = nI n := by
  have hR := h.2.2.2
  by_cases z : a (od_ N k i) = 0
  · by_cases y : ns_ a N R k i < N
    · exact Or.inr ⟨_, od_lt h.1 h.2.1 hk y, pl_t z y⟩
    · exact Or.inl (pl_n z y)
  · exact Or.inr ⟨_, od_lt h.1 h.2.1 hk (by omega), pl_f z⟩
theorem pl_inj {i j o : Nat} (h : rz_ N R) (hk : k < 4) (hij : i < j) (hj : j < R) (ho : o < N) (e1 : pl_ a N R k i = nI o) (e2 : pl_ a N R k j = nI o) : False := by
  have hR := h.2.2.2
  obtain ⟨g1, g2, g3, g4⟩ := pv_ (a := a) h hk j (by omega)
  by_cases z : a (od_ N k j) = 0
  · by_cases y : ns_ a N R k j < N
    · have s := ns_sp (a := a) h hk (i := j) (by omega)
      rw [pl_t z y] at e2
      exact g4 (ns_ a N R k j) s.1 y i hij (e1.trans e2.symm)
    · rw [pl_n z y] at e2
      have h6 := h.2.1
      exact nI_ne1 (n := o) (by omega) e2.symm
  · rw [pl_f z] at e2
    by_cases z2 : a (od_ N k i) = 0
    · by_cases y : ns_ a N R k i < N
      · have s := ns_sp (a := a) h hk (i := i) (by omega)
        obtain ⟨f1, _⟩ := pv_ (a := a) h hk i (by omega)
        rw [pl_t z2 y] at e1
        exact od_ne h hk y (by omega) (by omega) (e1.trans e2.symm)
      · rw [pl_n z2 y] at e1
        have h6 := h.2.1
        exact nI_ne1 (n := o) (by omega) e1.symm
    · rw [pl_f z2] at e1
      exact od_ne h hk (by omega) (by omega) (by omega) (e1.trans e2.symm)
end
def mc_ (p : Nat → Int32) (o : Int32) : Nat → Nat
  | 0 => 0
  | i + 1 => mc_ p o i + (if p i = o ∨ p i = -1 then 0 else 1)
theorem mc_f {p : Nat → Int32} {o : Int32} {i : Nat} (h : p i = o ∨ p i = -1) : mc_ p o (i + 1) = mc_ p o i := by simp only [mc_]; rw [if_pos h, Nat.add_zero]
theorem mc_t {p : Nat → Int32} {o : Int32} {i : Nat} (h : ¬ (p i = o ∨ p i = -1)) : nI (mc_ p o i) + 1 = nI (mc_ p o (i + 1)) := by simp only [mc_]; rw [if_neg h, nI_1]
def vd_ (nd p m f : Int32) : Int32 := if nd ≤ p then (if m ≤ f then 1 else -6) else -5
theorem neg_1 : (-1 : Int32) < 0 := by decide
section
variable {N R K : Nat} {xlt xls xlc : Int64} {xrq xwq xpc : Int32} {xal xrg xkw xac xlv xrs xrk xry xro xra xrn xan xmk xmf xmt xmy xmg xmc xpn : Nat → Int32} {xlp xst xhi xcx xaw xms : Nat → Int64}
theorem x_next_l {post : Int32 → SX → Prop} {k s : Nat} (hz : rz_ N R) (hO : ro_ N xrg) (hk : k < 4) (hs : s < N) (hs1 : ¬ xal (od_ N k s) = 0) (h : post (nI (od_ N k s)) (xlt, nI N, nI R, xrq, xwq, nI (s + 1), xls, xlc, nI K, xal, xrg, xkw, xac, xlv, xlp, xst, xhi, xcx, xrs, xrk, xry, xro, xra, xrn, xan, xaw, xmk, xmf, xmt, xmy, xmg, xmc, xms, xpn)) : ∀ d i m, i + d = s → (∀ j, i ≤ j → j < s → xal (od_ N k j) = 0) → wX_nextStandIn_5 post (nI k) xlt (nI N) (nI R) xrq xwq xpc xls xlc (nI K) xal xrg xkw xac xlv xlp xst xhi xcx xrs xrk xry xro xra xrn xan xaw xmk xmf xmt xmy xmg xmc xms xpn (m + d + 1) (nI i) := by
  have h6 := hz.2.1
  intro d
  induction d with
  | zero =>
    intro i m e a
    have e6 : i = s := by omega
    subst e6
    have l := od_lt hz.1 hz.2.1 hk hs
    rw [wX_nextStandIn_5]
    dsimp only
    rw [ix_6, nI_clamp (n := k * 6 + i) (by omega), hO k hk i hs]
    refine br_f (nI_ge hs (by omega)) ⟨vp_in_nI (by omega) (by decide), nm_e ⟨vp_in_nI (by omega) (by decide), ?_⟩⟩
    rw [nI_clamp (n := od_ N k i) (by omega)]
    exact br_f hs1 (nm_r (nI_1 i) h)
  | succ d ih =>
    intro i m e a
    have l := od_lt hz.1 hz.2.1 hk (p := i) (by omega)
    rw [wX_nextStandIn_5]
    dsimp only
    rw [ix_6, nI_clamp (n := k * 6 + i) (by omega), hO k hk i (by omega)]
    refine br_f (nI_ge (by omega) (by omega)) ⟨vp_in_nI (by omega) (by decide), nm_e ⟨vp_in_nI (by omega) (by decide), ?_⟩⟩
    rw [nI_clamp (n := od_ N k i) (by omega)]
    exact br_t (a i (by omega) (by omega)) (nm_r (nI_1 i) (ih (i + 1) m (by omega) (fun j j1 j2 => a j (by omega) j2)))
theorem x_next_fl {post : Int32 → SX → Prop} {k : Nat} (hz : rz_ N R) (hO : ro_ N xrg) (hk : k < 4) (h : post (-1) (xlt, nI N, nI R, xrq, xwq, nI N, xls, xlc, nI K, xal, xrg, xkw, xac, xlv, xlp, xst, xhi, xcx, xrs, xrk, xry, xro, xra, xrn, xan, xaw, xmk, xmf, xmt, xmy, xmg, xmc, xms, xpn)) : ∀ d i m, i + d = N → (∀ j, i ≤ j → j < N → xal (od_ N k j) = 0) → wX_nextStandIn_5 post (nI k) xlt (nI N) (nI R) xrq xwq xpc xls xlc (nI K) xal xrg xkw xac xlv xlp xst xhi xcx xrs xrk xry xro xra xrn xan xaw xmk xmf xmt xmy xmg xmc xms xpn (m + d + 1) (nI i) := by
  have h6 := hz.2.1
  intro d
  induction d with
  | zero =>
    intro i m e a
    have e6 : i = N := by omega
    subst e6
    exact br_t (nI_le (Nat.le_refl _) (by omega)) h
  | succ d ih =>
    intro i m e a
    have l := od_lt hz.1 hz.2.1 hk (p := i) (by omega)
    rw [wX_nextStandIn_5]
    dsimp only
    rw [ix_6, nI_clamp (n := k * 6 + i) (by omega), hO k hk i (by omega)]
    refine br_f (nI_ge (by omega) (by omega)) ⟨vp_in_nI (by omega) (by decide), nm_e ⟨vp_in_nI (by omega) (by decide), ?_⟩⟩
    rw [nI_clamp (n := od_ N k i) (by omega)]
    exact br_t (a i (by omega) (by omega)) (nm_r (nI_1 i) (ih (i + 1) m (by omega) (fun j j1 j2 => a j (by omega) j2)))
theorem x_plan_l {post : Int32 → SX → Prop} {k o : Nat} {nd : Int32} (hz : rz_ N R) (hO : ro_ N xrg) (hk : k < 4) (ho : o < N) (h : ∀ pn pc, (∀ j, j < R → pn j = pl_ xal N R k j) → post (vd_ nd (nI (oc_ (pl_ xal N R k) (nI o) R + mc_ (pl_ xal N R k) (nI o) R)) (nI (mc_ (pl_ xal N R k) (nI o) R)) (nI (oc_ xmk 0 24))) (xlt, nI N, nI R, xrq, xwq, pc, xls, xlc, nI K, xal, xrg, xkw, xac, xlv, xlp, xst, xhi, xcx, xrs, xrk, xry, xro, xra, xrn, xan, xaw, xmk, xmf, xmt, xmy, xmg, xmc, xms, pn)) : ∀ d i m pn, i + d = R → (∀ j, j < i → pn j = pl_ xal N R k j) → wX_makePlan_17 post (nI o) (nI k) nd (m + d + 1) (nI (oc_ (pl_ xal N R k) (nI o) i)) (nI (mc_ (pl_ xal N R k) (nI o) i)) (nI i) xlt (nI N) (nI R) xrq xwq (nI (pc_ xal N R k i)) xls xlc (nI K) xal xrg xkw xac xlv xlp xst xhi xcx xrs xrk xry xro xra xrn xan xaw xmk xmf xmt xmy xmg xmc xms pn := by
  have h6 := hz.2.1
  have hR := hz.2.2.2
  intro d
  induction d with
  | zero =>
    intro i m pn e a
    have e6 : i = R := by omega
    subst e6
    have hh := h pn (nI (pc_ xal N i k i)) a
    unfold vd_ at hh
    rw [wX_makePlan_17]
    dsimp only
    rw [nI_add]
    refine br_t (nI_le (Nat.le_refl _) (by omega)) ?_
    by_cases c1 : nd ≤ nI (oc_ (pl_ xal N i k) (nI o) i + mc_ (pl_ xal N i k) (nI o) i)
    · rw [if_pos c1] at hh
      refine br_t c1 (x_cfree ?_)
      by_cases c2 : nI (mc_ (pl_ xal N i k) (nI o) i) ≤ nI (oc_ xmk 0 24)
      · rw [if_pos c2] at hh
        exact br_t c2 hh
      · rw [if_neg c2] at hh
        exact br_f c2 hh
    · rw [if_neg c1] at hh
      exact br_f c1 hh
  | succ d ih =>
    intro i m pn e a
    have l := od_lt hz.1 hz.2.1 hk (p := i) (by omega)
    have k57 : ∀ x7 pc', x7 = pl_ xal N R k i → pc' = nI (pc_ xal N R k (i + 1)) → wX_makePlan_57 post (wX_makePlan_17 post (nI o) (nI k) nd (m + d + 1)) (nI o) (nI k) nd (nI (oc_ (pl_ xal N R k) (nI o) i)) (nI (mc_ (pl_ xal N R k) (nI o) i)) (nI i) x7 xlt (nI N) (nI R) xrq xwq pc' xls xlc (nI K) xal xrg xkw xac xlv xlp xst xhi xcx xrs xrk xry xro xra xrn xan xaw xmk xmf xmt xmy xmg xmc xms pn := by
      intro x7 pc' e1 e2
      have q := ih (i + 1) m (upd pn i x7) (by omega) (fun j hj => by
        by_cases w : j = i
        · rw [w, pk_us, e1]
        · rw [pk_un w]; exact a j (by omega))
      rw [← e2] at q
      unfold wX_makePlan_57
      rw [nI_clamp (n := i) (by omega)]
      refine ⟨vp_in_nI (by omega) (by decide), nm_e ?_⟩
      by_cases c1 : x7 = nI o
      · rw [mc_f (Or.inl (e1.symm.trans c1))] at q
        exact br_t c1 (nm_r (oc_t (e1.symm.trans c1)) (nm_r (nI_1 i) q))
      · rw [← oc_f (fun w => c1 (e1.trans w))] at q
        refine br_f c1 ?_
        rcases pl_v (a := xal) hz hk (i := i) (by omega) with w | ⟨n, w1, w2⟩
        · rw [mc_f (Or.inr w)] at q
          exact br_t (by rw [e1, w]; exact neg_1) (nm_r (nI_1 i) q)
        · exact br_f (by rw [e1, w2]; exact nI_pos (by omega)) (nm_r (mc_t (fun v => v.elim (fun v => c1 (e1.trans v)) (fun v => nI_ne1 (n := n) (by omega) (w2.symm.trans v)))) (nm_r (nI_1 i) q))
    rw [wX_makePlan_17]
    dsimp only
    rw [ix_6, nI_clamp (n := k * 6 + i) (by omega), hO k hk i (by omega)]
    refine br_f (nI_ge (by omega) (by omega)) ⟨vp_in_nI (by omega) (by decide), nm_e ⟨vp_in_nI (by omega) (by decide), ?_⟩⟩
    rw [nI_clamp (n := od_ N k i) (by omega)]
    by_cases z : xal (od_ N k i) = 0
    · refine br_t z ?_
      obtain ⟨p1, p2, p3, p4⟩ := pv_ (a := xal) hz hk i (by omega)
      obtain ⟨s1, s2, s3, s4⟩ := ns_sp (a := xal) hz hk (i := i) (by omega)
      by_cases y : ns_ xal N R k i < N
      · exact ⟨_, x_next_l hz hO hk y (s4 y) (k57 _ _ (pl_t z y).symm (by rw [pc_t z y])) (ns_ xal N R k i - pc_ xal N R k i) (pc_ xal N R k i) 0 (by omega) s3⟩
      · exact ⟨_, x_next_fl hz hO hk (k57 _ _ (pl_n z y).symm (by rw [pc_n z y])) (N - pc_ xal N R k i) (pc_ xal N R k i) 0 (by omega) (fun j j1 j2 => s3 j j1 (by omega))⟩
    · exact br_f z (k57 _ _ (pl_f z).symm (by rw [pc_f z]))
theorem x_plan {post : Int32 → SX → Prop} {k o : Nat} {nd : Int32} (hz : rz_ N R) (hO : ro_ N xrg) (hk : k < 4) (ho : o < N) (h : ∀ pn pc, (∀ j, j < R → pn j = pl_ xal N R k j) → post (vd_ nd (nI (oc_ (pl_ xal N R k) (nI o) R + mc_ (pl_ xal N R k) (nI o) R)) (nI (mc_ (pl_ xal N R k) (nI o) R)) (nI (oc_ xmk 0 24))) (xlt, nI N, nI R, xrq, xwq, pc, xls, xlc, nI K, xal, xrg, xkw, xac, xlv, xlp, xst, xhi, xcx, xrs, xrk, xry, xro, xra, xrn, xan, xaw, xmk, xmf, xmt, xmy, xmg, xmc, xms, pn)) : wpX_makePlan post (xlt, nI N, nI R, xrq, xwq, xpc, xls, xlc, nI K, xal, xrg, xkw, xac, xlv, xlp, xst, xhi, xcx, xrs, xrk, xry, xro, xra, xrn, xan, xaw, xmk, xmf, xmt, xmy, xmg, xmc, xms, xpn) (nI o) (nI k) nd :=
  ⟨_, x_plan_l hz hO hk ho h R 0 0 xpn (by omega) (fun j hj => by omega)⟩
end
end
section
/-! the plan of the reference -/
section
variable {N R K : Nat} {xrq xwq : Int32} {ybi xkw ywn ywm ywv yal xrs xrk xry xro xra xrn xan xmk ymf ymt ymy ymg xmc yme yph ypn : Nat → Int32}
theorem y_100 {post : SY → Prop} {J2 J66 : Int32 → Int32 → Int32 → Int32 → Int32 → Int32 → (Nat → Int32) → (Nat → Int32) → (Nat → Int32) → (Nat → Int32) → (Nat → Int32) → (Nat → Int32) → (Nat → Int32) → (Nat → Int32) → (Nat → Int32) → (Nat → Int32) → (Nat → Int32) → (Nat → Int32) → (Nat → Int32) → (Nat → Int32) → (Nat → Int32) → (Nat → Int32) → (Nat → Int32) → (Nat → Int32) → (Nat → Int32) → (Nat → Int32) → (Nat → Int32) → (Nat → Int32) → Prop} {i s x : Nat} {x1 x2 : Int32} (hi : i < 6) (hx : x < 6) (hA : yal x = 0 → J66 (nI (s + 1)) (nI K) (nI N) (nI R) xrq xwq ybi xkw ywn ywm ywv yal xrs xrk xry xro xra xrn xan xmk ymf ymt ymy ymg xmc yme yph ypn) (hB : ¬ yal x = 0 → (¬ ∃ j, j < i ∧ ypn j = nI x) → J66 (nI (s + 1)) (nI K) (nI N) (nI R) xrq xwq ybi xkw ywn ywm ywv yal xrs xrk xry xro xra xrn xan xmk ymf ymt ymy ymg xmc yme yph (upd ypn i (nI x))) (hC : ¬ yal x = 0 → (∃ j, j < i ∧ ypn j = nI x) → J66 (nI (s + 1)) (nI K) (nI N) (nI R) xrq xwq ybi xkw ywn ywm ywv yal xrs xrk xry xro xra xrn xan xmk ymf ymt ymy ymg xmc yme yph ypn) : ∀ d j m x7, j + d = i → (x7 = 0 ↔ ¬ ∃ j', j' < j ∧ ypn j' = nI x) → wY_makePlan_100 post J2 J66 x1 x2 (nI i) (nI s) (nI x) (nI K) (nI N) (nI R) xrq xwq ybi xkw ywn ywm ywv yal xrs xrk xry xro xra xrn xan xmk ymf ymt ymy ymg xmc yme yph ypn (m + d + 1) x7 (nI j) := by
  intro d
  induction d with
  | zero =>
    intro j m x7 e a
    have e6 : j = i := by omega
    subst e6
    rw [wY_makePlan_100]
    dsimp only
    rw [nI_clamp (n := x) (by omega), nI_clamp (n := j) (by omega)]
    refine br_t (nI_le (Nat.le_refl _) (by omega)) ⟨vp_in_nI hx (by decide), ?_⟩
    by_cases z : yal x = 0
    · exact br_t z (nm_r (nI_1 s) (hA z))
    · refine br_f z ?_
      by_cases w : x7 = 0
      · exact br_t w ⟨vp_in_nI hi (by decide), nm_e (nm_r (nI_1 s) (hB z (a.mp w)))⟩
      · exact br_f w (nm_r (nI_1 s) (hC z (Classical.byContradiction (fun v => w (a.mpr v)))))
  | succ d ih =>
    intro j m x7 e a
    rw [wY_makePlan_100]
    dsimp only
    rw [nI_clamp (n := j) (by omega)]
    refine br_f (nI_ge (by omega) (by omega)) ⟨vp_in_nI (by omega) (by decide), ?_⟩
    by_cases z : ypn j = nI x
    · exact br_t z (nm_r (nI_1 j) (ih (j + 1) m 1 (by omega) ⟨fun w => absurd w (by decide), fun w => absurd ⟨j, by omega, z⟩ w⟩))
    · refine br_f z (nm_r (nI_1 j) (ih (j + 1) m x7 (by omega) ⟨fun w v => ?_, fun w => a.mpr (fun v => w ?_)⟩))
      · obtain ⟨j', j1, j2⟩ := v
        by_cases u : j' = j
        · rw [u] at j2; exact z j2
        · exact a.mp w ⟨j', by omega, j2⟩
      · obtain ⟨j', j1, j2⟩ := v
        exact ⟨j', by omega, j2⟩
theorem y_66 {post : SY → Prop} {J2 : Int32 → Int32 → Int32 → Int32 → Int32 → Int32 → (Nat → Int32) → (Nat → Int32) → (Nat → Int32) → (Nat → Int32) → (Nat → Int32) → (Nat → Int32) → (Nat → Int32) → (Nat → Int32) → (Nat → Int32) → (Nat → Int32) → (Nat → Int32) → (Nat → Int32) → (Nat → Int32) → (Nat → Int32) → (Nat → Int32) → (Nat → Int32) → (Nat → Int32) → (Nat → Int32) → (Nat → Int32) → (Nat → Int32) → (Nat → Int32) → (Nat → Int32) → Prop} {a : Nat → Int32} {k i : Nat} {x1 : Int32} (hz : rz_ N R) (hk : k < 4) (hi : i < R) (ha : ∀ n, n < N → yal n = a n) (hd : a (od_ N k i) = 0) (hp : ∀ j, j < i → ypn j = pl_ a N R k j) (hm : ypn i = -1) (hJ : ∀ me pn, (∀ j, j < i + 1 → pn j = pl_ a N R k j) → J2 (nI (i + 1)) (nI K) (nI N) (nI R) xrq xwq ybi xkw ywn ywm ywv yal xrs xrk xry xro xra xrn xan xmk ymf ymt ymy ymg xmc me yph pn) : ∀ d s m me, s + d = N → (∀ s', R ≤ s' → s' < s → ¬ a (od_ N k s') = 0 → ∃ j, j < i ∧ pl_ a N R k j = nI (od_ N k s')) → (s ≤ ns_ a N R k i) → R ≤ s → wY_makePlan_66 post J2 x1 (nI k) (nI i) (m + d + 1) (nI s) (nI K) (nI N) (nI R) xrq xwq ybi xkw ywn ywm ywv yal xrs xrk xry xro xra xrn xan xmk ymf ymt ymy ymg xmc me yph ypn := by
  have h6 := hz.2.1
  have hR := hz.2.2.2
  obtain ⟨p1, p2, p3, p4⟩ := pv_ (a := a) hz hk i (by omega)
  obtain ⟨s1, s2, s3, s4⟩ := ns_sp (a := a) hz hk (i := i) (by omega)
  intro d
  induction d with
  | zero =>
    intro s m me e b c r
    have e6 : s = N := by omega
    subst e6
    refine br_t (nI_le (Nat.le_refl _) (by omega)) (nm_r (nI_1 i) (hJ me ypn (fun j hj => ?_)))
    by_cases w : j = i
    · rw [w, hm, pl_n hd (by omega)]
    · exact hp j (by omega)
  | succ d ih =>
    intro s m me e b c r
    have l := od_lt hz.1 hz.2.1 hk (p := s) (by omega)
    have hal := ha (od_ N k s) l
    show wY_makePlan_66 post J2 x1 (nI k) (nI i) ((m + d + 1) + 1) (nI s) (nI K) (nI N) (nI R) xrq xwq ybi xkw ywn ywm ywv yal xrs xrk xry xro xra xrn xan xmk ymf ymt ymy ymg xmc me yph ypn
    rw [wY_makePlan_66]
    dsimp only
    rw [nI_clamp (n := i) (by omega)]
    refine br_f (nI_ge (by omega) (by omega)) ⟨vp_in_nI (by omega) (by decide), br_t hm ?_⟩
    refine y_nod hz.1 hz.2.1 hk (by omega) (fun me' => ?_)
    dsimp only
    refine ⟨0 + i + 1, ?_⟩
    refine y_100 (J66 := wY_makePlan_66 post J2 x1 (nI k) (nI i) (m + d + 1)) (s := s) (by omega) (by omega) (fun z => ?_) (fun z u => ?_) (fun z u => ?_) i 0 0 0 (by omega) ⟨fun _ v => ?_, fun _ => rfl⟩
    · rw [hal] at z
      refine ih (s + 1) m me' (by omega) (fun s' q1 q2 q3 => ?_) ?_ (by omega)
      · by_cases w : s' = s
        · rw [w] at q3; exact absurd z q3
        · exact b s' q1 (by omega) q3
      · by_cases w : s = ns_ a N R k i
        · have := s4 (by omega)
          rw [← w] at this
          exact absurd z this
        · omega
    · rw [hal] at z
      have es : s = ns_ a N R k i := by
        by_cases w : s = ns_ a N R k i
        · exact w
        · by_cases w2 : s < pc_ a N R k i
          · obtain ⟨j, j1, j2⟩ := p3 s r w2 z
            exact absurd ⟨j, j1, (hp j j1).trans j2⟩ u
          · exact absurd (s3 s (by omega) (by omega)) z
      have pe : ∀ j, j < i + 1 → upd ypn i (nI (od_ N k s)) j = pl_ a N R k j := fun j hj => by
        by_cases w : j = i
        · rw [w, pk_us, pl_t hd (by omega), es]
        · rw [pk_un w]; exact hp j (by omega)
      show wY_makePlan_66 post J2 x1 (nI k) (nI i) (m + d + 1) (nI (s + 1)) (nI K) (nI N) (nI R) xrq xwq ybi xkw ywn ywm ywv yal xrs xrk xry xro xra xrn xan xmk ymf ymt ymy ymg xmc me' yph (upd ypn i (nI (od_ N k s)))
      rw [wY_makePlan_66]
      dsimp only
      rw [nI_clamp (n := i) (by omega), pk_us]
      refine br_c (fun _ => nm_r (nI_1 i) (hJ me' _ pe)) (fun _ => ⟨vp_in_nI (by omega) (by decide), br_f (nI_ne1 (by omega)) (nm_r (nI_1 i) (hJ me' _ pe))⟩)
    · rw [hal] at z
      obtain ⟨j, j1, j2⟩ := u
      refine ih (s + 1) m me' (by omega) (fun s' q1 q2 q3 => ?_) ?_ (by omega)
      · by_cases w : s' = s
        · rw [w]; exact ⟨j, j1, (hp j j1).symm.trans j2⟩
        · exact b s' q1 (by omega) q3
      · by_cases w : s = ns_ a N R k i
        · exact absurd ((hp j j1).symm.trans j2) (p4 s (by omega) (by omega) j j1)
        · omega
    · obtain ⟨j', j1, _⟩ := v
      omega
theorem y_plan_l {post : SY → Prop} {a : Nat → Int32} {k o : Nat} (hz : rz_ N R) (hk : k < 4) (ho : o < N) (ha : ∀ n, n < N → yal n = a n) (hao : ¬ a o = 0) (h : ∀ me ph pn, (∀ j, j < R → ph j = nI (od_ N k j)) → (∀ j, j < R → pn j = pl_ a N R k j) → post (nI K, nI N, nI R, xrq, xwq, ybi, xkw, ywn, ywm, ywv, yal, xrs, xrk, xry, xro, xra, xrn, xan, xmk, ymf, ymt, ymy, ymg, xmc, me, ph, pn)) : ∀ d i m me ph pn, i + d = R → (∀ j, j < i → ph j = nI (od_ N k j)) → (∀ j, j < i → pn j = pl_ a N R k j) → wY_makePlan_2 post (nI o) (nI k) (m + d + 1) (nI i) (nI K) (nI N) (nI R) xrq xwq ybi xkw ywn ywm ywv yal xrs xrk xry xro xra xrn xan xmk ymf ymt ymy ymg xmc me ph pn := by
  have h6 := hz.2.1
  have hR := hz.2.2.2
  intro d
  induction d with
  | zero =>
    intro i m me ph pn e p1 p2
    have e6 : i = R := by omega
    subst e6
    exact br_t (nI_le (Nat.le_refl _) (by omega)) (h me ph pn p1 p2)
  | succ d ih =>
    intro i m me ph pn e p1 p2
    have l := od_lt hz.1 hz.2.1 hk (p := i) (by omega)
    have hal := ha (od_ N k i) l
    have ph1 : ∀ j, j < i + 1 → upd ph i (nI (od_ N k i)) j = nI (od_ N k j) := fun j hj => by
      by_cases w : j = i
      · rw [w, pk_us]
      · rw [pk_un w]; exact p1 j (by omega)
    have k49 : ∀ me, ¬ a (od_ N k i) = 0 → wY_makePlan_49 post (wY_makePlan_2 post (nI o) (nI k) (m + d + 1)) (nI o) (nI k) (nI i) (nI (od_ N k i)) (nI K) (nI N) (nI R) xrq xwq ybi xkw ywn ywm ywv yal xrs xrk xry xro xra xrn xan xmk ymf ymt ymy ymg xmc me (upd ph i (nI (od_ N k i))) (upd pn i (-1)) := by
      intro me z
      have q := ih (i + 1) m me (upd ph i (nI (od_ N k i))) (upd (upd pn i (-1)) i (nI (od_ N k i))) (by omega) ph1 (fun j hj => by
        by_cases w : j = i
        · rw [w, pk_us, pl_f z]
        · rw [pk_un w, pk_un w]; exact p2 j (by omega))
      unfold wY_makePlan_49
      rw [nI_clamp (n := i) (by omega)]
      exact ⟨vp_in_nI (by omega) (by decide), nm_e (nm_r (nI_1 i) q)⟩
    show wY_makePlan_2 post (nI o) (nI k) ((m + d + 1) + 1) (nI i) (nI K) (nI N) (nI R) xrq xwq ybi xkw ywn ywm ywv yal xrs xrk xry xro xra xrn xan xmk ymf ymt ymy ymg xmc me ph pn
    rw [wY_makePlan_2]
    refine br_f (nI_ge (by omega) (by omega)) (y_nod hz.1 hz.2.1 hk (by omega) (fun me' => ?_))
    dsimp only
    rw [nI_clamp (n := i) (by omega), nI_clamp (n := od_ N k i) (by omega)]
    refine ⟨vp_in_nI (by omega) (by decide), nm_e ⟨vp_in_nI (by omega) (by decide), nm_e ?_⟩⟩
    by_cases c1 : nI (od_ N k i) = nI o
    · refine br_t c1 (k49 me' ?_)
      rw [(nI_eq (by omega) (by omega)).mp c1]
      exact hao
    · refine br_f c1 ⟨vp_in_nI (by omega) (by decide), ?_⟩
      by_cases z : yal (od_ N k i) = 0
      · refine br_t z ⟨0 + (N - R) + 1, ?_⟩
        rw [hal] at z
        refine y_66 (J2 := wY_makePlan_2 post (nI o) (nI k) (m + d + 1)) hz hk (by omega) ha z (fun j hj => ?_) pk_us (fun me2 pn2 q2 => ih (i + 1) m me2 _ pn2 (by omega) ph1 q2) (N - R) R 0 me' (by omega) (fun s' q1 q2 => by omega) ?_ (Nat.le_refl _)
        · rw [pk_un (by omega)]; exact p2 j hj
        · obtain ⟨f1, _⟩ := pv_ (a := a) hz hk i (by omega)
          obtain ⟨g1, _⟩ := ns_sp (a := a) hz hk (i := i) (by omega)
          omega
      · refine br_f z (k49 me' ?_)
        rw [← hal]
        exact z
theorem y_plan {post : SY → Prop} {a : Nat → Int32} {k o : Nat} (hz : rz_ N R) (hk : k < 4) (ho : o < N) (ha : ∀ n, n < N → yal n = a n) (hao : ¬ a o = 0) (h : ∀ me ph pn, (∀ j, j < R → ph j = nI (od_ N k j)) → (∀ j, j < R → pn j = pl_ a N R k j) → post (nI K, nI N, nI R, xrq, xwq, ybi, xkw, ywn, ywm, ywv, yal, xrs, xrk, xry, xro, xra, xrn, xan, xmk, ymf, ymt, ymy, ymg, xmc, me, ph, pn)) : wpY_makePlan post (nI K, nI N, nI R, xrq, xwq, ybi, xkw, ywn, ywm, ywv, yal, xrs, xrk, xry, xro, xra, xrn, xan, xmk, ymf, ymt, ymy, ymg, xmc, yme, yph, ypn) (nI o) (nI k) :=
  ⟨_, y_plan_l hz hk ho ha hao h R 0 0 yme yph ypn (by omega) (fun j hj => by omega) (fun j hj => by omega)⟩
theorem y_pc75 {post : Int32 → SY → Prop} {nd p m : Int32} (h : post (vd_ nd p m (nI (oc_ xmk 0 24))) (nI K, nI N, nI R, xrq, xwq, ybi, xkw, ywn, ywm, ywv, yal, xrs, xrk, xry, xro, xra, xrn, xan, xmk, ymf, ymt, ymy, ymg, xmc, yme, yph, ypn)) : ∀ d i f, i + d = 24 → wY_planCheck_75 post nd p m (nI K) (nI N) (nI R) xrq xwq ybi xkw ywn ywm ywv yal xrs xrk xry xro xra xrn xan xmk ymf ymt ymy ymg xmc yme yph ypn (f + d + 1) (nI (oc_ xmk 0 i)) (nI i) := by
  intro d
  induction d with
  | zero =>
    intro i f e
    have e6 : i = 24 := by omega
    subst e6
    unfold vd_ at h
    refine br_t (nI_le (Nat.le_refl 24) (by decide)) ?_
    by_cases c1 : nd ≤ p
    · rw [if_pos c1] at h
      refine br_t c1 ?_
      by_cases c2 : m ≤ nI (oc_ xmk 0 24)
      · rw [if_pos c2] at h
        exact br_t c2 h
      · rw [if_neg c2] at h
        exact br_f c2 h
    · rw [if_neg c1] at h
      exact br_f c1 h
  | succ d ih =>
    intro i f q
    rw [wY_planCheck_75]
    dsimp only
    rw [nI_clamp (n := i) (by omega)]
    refine br_f (nI_ge (b := 24) (by omega) (by decide)) ⟨vp_in_nI (by omega) (by decide), ?_⟩
    by_cases z : xmk i = 0
    · exact br_t z (nm_r (oc_t z) (nm_r (nI_1 i) (ih (i + 1) f (by omega))))
    · refine br_f z (nm_r (nI_1 i) ?_)
      rw [oc_f z]
      exact ih (i + 1) f (by omega)
theorem y_pc18 {post : Int32 → SY → Prop} {a : Nat → Int32} {k o : Nat} {nd : Int32} (hz : rz_ N R) (hk : k < 4) (ho : o < N) (hp : ∀ j, j < R → ypn j = pl_ a N R k j) (h : post (vd_ nd (nI (oc_ (pl_ a N R k) (nI o) R + mc_ (pl_ a N R k) (nI o) R)) (nI (mc_ (pl_ a N R k) (nI o) R)) (nI (oc_ xmk 0 24))) (nI K, nI N, nI R, xrq, xwq, ybi, xkw, ywn, ywm, ywv, yal, xrs, xrk, xry, xro, xra, xrn, xan, xmk, ymf, ymt, ymy, ymg, xmc, yme, yph, ypn)) : ∀ d i f, i + d = R → wY_planCheck_18 post (nI o) nd 0 (nI K) (nI N) (nI R) xrq xwq ybi xkw ywn ywm ywv yal xrs xrk xry xro xra xrn xan xmk ymf ymt ymy ymg xmc yme yph ypn (f + d + 1) (nI (oc_ (pl_ a N R k) (nI o) i + mc_ (pl_ a N R k) (nI o) i)) (nI (mc_ (pl_ a N R k) (nI o) i)) (nI i) := by
  have h6 := hz.2.1
  have hR := hz.2.2.2
  intro d
  induction d with
  | zero =>
    intro i f e
    have e6 : i = R := by omega
    subst e6
    exact br_t (nI_le (Nat.le_refl _) (by omega)) ⟨_, y_pc75 h 24 0 0 rfl⟩
  | succ d ih =>
    intro i f e
    have q := ih (i + 1) f (by omega)
    have ep := hp i (by omega)
    rw [wY_planCheck_18]
    dsimp only
    rw [nI_clamp (n := i) (by omega)]
    refine br_f (nI_ge (by omega) (by omega)) ⟨vp_in_nI (by omega) (by decide), ?_⟩
    rcases pl_v (a := a) hz hk (i := i) (by omega) with w | ⟨n, w1, w2⟩
    · have e1 : ypn i = -1 := ep.trans w
      have n1 : ¬ pl_ a N R k i = nI o := fun v => nI_ne1 (n := o) (by omega) (v.symm.trans w)
      rw [mc_f (Or.inr w), ← oc_f n1] at q
      refine br_t e1 ?_
      unfold wY_planCheck_41
      rw [nI_clamp (n := i) (by omega)]
      exact ⟨vp_in_nI (by omega) (by decide), br_t e1 (nm_r (nI_1 i) q)⟩
    · have e1 : ¬ ypn i = -1 := fun v => nI_ne1 (n := n) (by omega) (w2.symm.trans (ep.symm.trans v))
      refine br_f e1 (nm_r (e' := nI (oc_ (pl_ a N R k) (nI o) (i + 1) + mc_ (pl_ a N R k) (nI o) (i + 1))) ?_ ?_)
      · rw [nI_1]
        refine congrArg nI ?_
        by_cases c1 : pl_ a N R k i = nI o
        · rw [mc_f (Or.inl c1)]
          simp only [oc_]
          rw [if_pos c1]
          omega
        · rw [← oc_f c1]
          simp only [mc_]
          rw [if_neg (fun v => v.elim c1 (fun v => nI_ne1 (n := n) (by omega) (w2.symm.trans v)))]
          omega
      · unfold wY_planCheck_41
        rw [nI_clamp (n := i) (by omega)]
        refine ⟨vp_in_nI (by omega) (by decide), br_f e1 ⟨vp_in_nI (by omega) (by decide), ?_⟩⟩
        by_cases c1 : ypn i = nI o
        · rw [mc_f (Or.inl (ep.symm.trans c1))] at q ⊢
          exact br_t c1 (nm_r (nI_1 i) q)
        · exact br_f c1 (nm_r (mc_t (fun v => v.elim (fun v => c1 (ep.trans v)) (fun v => nI_ne1 (n := n) (by omega) (w2.symm.trans v)))) (nm_r (nI_1 i) q))
theorem y_check {post : Int32 → SY → Prop} {a : Nat → Int32} {k o : Nat} {nd : Int32} (hz : rz_ N R) (hk : k < 4) (ho : o < N) (ha : ∀ n, n < N → yal n = a n) (hao : ¬ a o = 0) (h : ∀ me ph pn, (∀ j, j < R → ph j = nI (od_ N k j)) → (∀ j, j < R → pn j = pl_ a N R k j) → post (vd_ nd (nI (oc_ (pl_ a N R k) (nI o) R + mc_ (pl_ a N R k) (nI o) R)) (nI (mc_ (pl_ a N R k) (nI o) R)) (nI (oc_ xmk 0 24))) (nI K, nI N, nI R, xrq, xwq, ybi, xkw, ywn, ywm, ywv, yal, xrs, xrk, xry, xro, xra, xrn, xan, xmk, ymf, ymt, ymy, ymg, xmc, me, ph, pn)) : wpY_planCheck post (nI K, nI N, nI R, xrq, xwq, ybi, xkw, ywn, ywm, ywv, yal, xrs, xrk, xry, xro, xra, xrn, xan, xmk, ymf, ymt, ymy, ymg, xmc, yme, yph, ypn) (nI o) (nI k) nd := by
  unfold wpY_planCheck
  dsimp only
  refine y_plan hz hk ho ha hao (fun me ph pn q1 q2 => ?_)
  exact ⟨_, y_pc18 (a := a) (k := k) hz hk ho q2 (h me ph pn q1 q2) R 0 0 (by omega)⟩
end
end
section
/-! requests close: both sides in step -/
theorem fr_or (k : Nat → Int32) : (∃ s, s < 24 ∧ k s = 0 ∧ ∀ j, j < s → ¬ k j = 0) ∨ ∀ s, s < 24 → ¬ k s = 0 := by
  have g : ∀ n, (∃ s, s < n ∧ k s = 0 ∧ ∀ j, j < s → ¬ k j = 0) ∨ ∀ s, s < n → ¬ k s = 0 := by
    intro n
    induction n with
    | zero => exact Or.inr (fun s hs => by omega)
    | succ n ih =>
      rcases ih with ⟨s, s1, s2⟩ | a
      · exact Or.inl ⟨s, by omega, s2⟩
      · by_cases z : k n = 0
        · exact Or.inl ⟨n, by omega, z, a⟩
        · refine Or.inr (fun s hs => ?_)
          by_cases e : s = n
          · rw [e]; exact z
          · exact a s (by omega)
  exact g 24
def un_ (an : Nat → Int32) (aw : Nat → Int64) (c : Nat) : Nat → Int64
  | 0 => 0
  | n + 1 => if an (c * 6 + n) = 0 then un_ an aw c n else jn_ (un_ an aw c n) (aw (c * 6 + n))
def yu_ (an b : Nat → Int32) (c : Nat) : Nat → Nat → Int32
  | 0 => cp_ b 234 233
  | n + 1 => if an (c * 6 + n) = 0 then yu_ an b c n else jr_ (yu_ an b c n) (208 + c * 6 + n) 233
theorem un_t {an : Nat → Int32} {aw : Nat → Int64} {c n : Nat} (h : an (c * 6 + n) = 0) : un_ an aw c (n + 1) = un_ an aw c n := by simp only [un_]; rw [if_pos h]
theorem un_f {an : Nat → Int32} {aw : Nat → Int64} {c n : Nat} (h : ¬ an (c * 6 + n) = 0) : un_ an aw c (n + 1) = jn_ (un_ an aw c n) (aw (c * 6 + n)) := by simp only [un_]; rw [if_neg h]
theorem yu_t {an b : Nat → Int32} {c n : Nat} (h : an (c * 6 + n) = 0) : yu_ an b c (n + 1) = yu_ an b c n := by simp only [yu_]; rw [if_pos h]
theorem yu_f {an b : Nat → Int32} {c n : Nat} (h : ¬ an (c * 6 + n) = 0) : yu_ an b c (n + 1) = jr_ (yu_ an b c n) (208 + c * 6 + n) 233 := by simp only [yu_]; rw [if_neg h]
section
variable {N R K : Nat} {xlt xls xlc : Int64} {xrq xwq xpc : Int32} {xal xrg xkw xac xlv xrs xrk xry xro xra xrn xan xmk xmf xmt xmy xmg xmc xpn ybi ywn ywm ywv yal ymf ymt ymy ymg yme yph ypn : Nat → Int32} {xlp xst xhi xcx xaw xms : Nat → Int64}
variable {ex : Nat} {C : Nat → Nat} {D : Nat → Nat → Nat}
theorem q_un {c y : Nat} (h : QR ex N R K C D xls xlc xal xrg xkw xac xlv xlp xst xhi xcx xrs xry xro xan xaw xmk xmf xmt xmy xmg xmc xms ybi ywn ywm ywv yal ymf ymt ymy ymg) (hc : c < 4) (hy : y < 4) (hry : xry c = nI y) : ∀ n, n ≤ 6 → QR ex N R K C D xls xlc xal xrg xkw xac xlv xlp xst xhi xcx xrs xry xro xan xaw xmk xmf xmt xmy xmg xmc xms (yu_ xan ybi c n) ywn ywm ywv yal ymf ymt ymy ymg ∧ rr_ C D (yu_ xan ybi c n) y (un_ xan xaw c n) 233 := by
  intro n
  induction n with
  | zero =>
    intro _
    exact ⟨q_233 h (fun j _ => q_01 h _), rr_cp (q_em h)⟩
  | succ n ih =>
    intro hn
    obtain ⟨i1, i2⟩ := ih (by omega)
    by_cases z : xan (c * 6 + n) = 0
    · rw [yu_t z, un_t z]
      exact ⟨i1, i2⟩
    · rw [yu_f z, un_f z]
      refine ⟨?_, ?_⟩
      · exact q_233 i1 (fun j _ => by
          show (if yu_ xan ybi c n ((208 + c * 6 + n) * 40 + j) = 0 then yu_ xan ybi c n (233 * 40 + j) else 1) = 0 ∨ (if yu_ xan ybi c n ((208 + c * 6 + n) * 40 + j) = 0 then yu_ xan ybi c n (233 * 40 + j) else 1) = 1
          split
          · exact q_01 i1 _
          · exact Or.inr rfl)
      · obtain ⟨y2, w1, w2, w3⟩ := i1.2.2.2.2.2.2.2.2.1 c hc n (by omega) z
        have e : y2 = y := by
          rw [hry] at w2
          exact ((nI_eq (by omega) (by omega)).mp w2).symm
        subst e
        exact rr_jr (q_cx i1 w1) i2 w3
theorem x_un {post : SX → Prop} {c y o : Nat} (h6 : N ≤ 6) (hc : c < 4) (hy : y < 4) (h : ∃ n87, wX_endGet_87 post (nI y) (nI o) (nI (c * 6)) (un_ xan xaw c N) n87 0 xlt (nI N) (nI R) xrq xwq xpc xls xlc (nI K) xal xrg xkw xac xlv xlp xst xhi (vp_updL xcx (c * 4 + y) (un_ xan xaw c N)) xrs xrk xry xro xra xrn xan xaw xmk xmf xmt xmy xmg xmc xms xpn) : ∀ d n m, n + d = N → wX_endGet_26 post (nI c) (nI y) (nI o) (nI (c * 6)) xlt (nI N) (nI R) xrq xwq xpc xls xlc (nI K) xal xrg xkw xac xlv xlp xst xhi xcx xrs xrk xry xro xra xrn xan xaw xmk xmf xmt xmy xmg xmc xms xpn (m + d + 1) (un_ xan xaw c n) (nI n) := by
  intro d
  induction d with
  | zero =>
    intro n m e
    have e6 : n = N := by omega
    subst e6
    rw [wX_endGet_26]
    dsimp only
    rw [ix_4, nI_clamp (n := c * 4 + y) (by omega)]
    exact br_t (nI_le (Nat.le_refl _) (by omega)) ⟨vp_in_nI (by omega) (by decide), nm_e h⟩
  | succ d ih =>
    intro n m e
    have v : vp_in (nI (c * 6 + n)) 24 := vp_in_nI (by omega) (by decide)
    have q := ih (n + 1) m (by omega)
    rw [wX_endGet_26]
    dsimp only
    rw [nI_add, nI_clamp (n := c * 6 + n) (by omega)]
    refine br_f (nI_ge (by omega) (by omega)) ⟨v, ?_⟩
    by_cases z : xan (c * 6 + n) = 0
    · rw [un_t z] at q
      exact br_t z (nm_r (nI_1 n) q)
    · rw [un_f z] at q
      exact br_f z ⟨v, x_join (nm_r (nI_1 n) q)⟩
theorem y_un {post : SY → Prop} {c y o : Nat} (h6 : N ≤ 6) (hc : c < 4) (hy : y < 4) (hb : ∀ j, yu_ xan ybi c N j = 0 ∨ yu_ xan ybi c N j = 1) (h : ∃ n94, wY_getEnding_94 post (nI c) (nI o) (nI y) n94 0 (nI K) (nI N) (nI R) xrq xwq (cp_ (yu_ xan ybi c N) 233 (168 + c * 4 + y)) xkw ywn ywm ywv yal xrs xrk xry xro xra xrn xan xmk ymf ymt ymy ymg xmc yme yph ypn) : ∀ d n m, n + d = N → wY_getEnding_27 post (nI c) (nI o) (nI y) (m + d + 1) (nI n) (nI K) (nI N) (nI R) xrq xwq (yu_ xan ybi c n) xkw ywn ywm ywv yal xrs xrk xry xro xra xrn xan xmk ymf ymt ymy ymg xmc yme yph ypn := by
  intro d
  induction d with
  | zero =>
    intro n m e
    have e6 : n = N := by omega
    subst e6
    have e2 : 168 + nI c * 4 + nI y = nI (168 + c * 4 + y) := ix_a4 168 c y
    rw [wY_getEnding_27]
    dsimp only
    rw [e2]
    exact br_t (nI_le (Nat.le_refl _) (by omega)) (y_copy (q := 233) (by omega) (by omega) hb h)
  | succ d ih =>
    intro n m e
    have v : vp_in (nI (c * 6 + n)) 24 := vp_in_nI (by omega) (by decide)
    have q := ih (n + 1) m (by omega)
    have e2 : 208 + nI c * 6 + nI n = nI (208 + c * 6 + n) := ix_a6 208 c n
    rw [wY_getEnding_27]
    dsimp only
    rw [e2, ix_6, nI_clamp (n := c * 6 + n) (by omega)]
    refine br_f (nI_ge (by omega) (by omega)) ⟨v, ?_⟩
    by_cases z : xan (c * 6 + n) = 0
    · rw [yu_t z] at q
      exact br_t z (nm_r (nI_1 n) q)
    · rw [yu_f z] at q
      exact br_f z (y_join (r := 233) (by omega) (by omega) (nm_r (nI_1 n) q))
theorem k_87 {c y o : Nat} {A : Int64} (hc : c < 4) (hy : y < 4) (ho : o < N) (hry : xry c = nI y) (hex : ex = c) : ∀ d n (xst xms : Nat → Int64) (xmk xmf xmt xmy xmg xmc ybi ymf ymt ymy ymg : Nat → Int32), n + d = N → QR ex N R K C D xls xlc xal xrg xkw xac xlv xlp xst xhi xcx xrs xry xro xan xaw xmk xmf xmt xmy xmg xmc xms ybi ywn ywm ywv yal ymf ymt ymy ymg → rr_ C D ybi y A 233 → ∃ (xst' xms' : Nat → Int64) (xmk' xmf' xmt' xmy' xmg' xmc' ybi' ymf' ymt' ymy' ymg' : Nat → Int32), QR ex N R K C D xls xlc xal xrg xkw xac xlv xlp xst' xhi xcx xrs xry xro xan xaw xmk' xmf' xmt' xmy' xmg' xmc' xms' ybi' ywn ywm ywv yal ymf' ymt' ymy' ymg' ∧ (∀ post : SX → Prop, post (xlt, nI N, nI R, xrq, xwq, xpc, xls, xlc, nI K, xal, xrg, xkw, xac, xlv, xlp, xst', xhi, xcx, xrs, xrk, xry, xro, xra, xrn, xan, xaw, xmk', xmf', xmt', xmy', xmg', xmc', xms', xpn) → wX_endGet_87 post (nI y) (nI o) (nI (c * 6)) A (d + 1) (nI n) xlt (nI N) (nI R) xrq xwq xpc xls xlc (nI K) xal xrg xkw xac xlv xlp xst xhi xcx xrs xrk xry xro xra xrn xan xaw xmk xmf xmt xmy xmg xmc xms xpn) ∧ (∀ (yme yph ypn : Nat → Int32) (post : SY → Prop), post (nI K, nI N, nI R, xrq, xwq, ybi', xkw, ywn, ywm, ywv, yal, xrs, xrk, xry, xro, xra, xrn, xan, xmk', ymf', ymt', ymy', ymg', xmc', yme, yph, ypn) → wY_getEnding_94 post (nI c) (nI o) (nI y) (d + 1) (nI n) (nI K) (nI N) (nI R) xrq xwq ybi xkw ywn ywm ywv yal xrs xrk xry xro xra xrn xan xmk ymf ymt ymy ymg xmc yme yph ypn) := by
  intro d
  induction d with
  | zero =>
    intro n xst xms xmk xmf xmt xmy xmg xmc ybi ymf ymt ymy ymg e h hA
    have h6 := h.1.2.1
    have e6 : n = N := by omega
    subst e6
    exact ⟨xst, xms, xmk, xmf, xmt, xmy, xmg, xmc, ybi, ymf, ymt, ymy, ymg, h, fun post hp => br_t (nI_le (Nat.le_refl _) (by omega)) hp, fun yme yph ypn post hp => br_t (nI_le (Nat.le_refl _) (by omega)) hp⟩
  | succ d ih =>
    intro n xst xms xmk xmf xmt xmy xmg xmc ybi ymf ymt ymy ymg e h hA
    have h6 := h.1.2.1
    have v : vp_in (nI (c * 6 + n)) 24 := vp_in_nI (by omega) (by decide)
    have e2 : 208 + nI c * 6 + nI n = nI (208 + c * 6 + n) := ix_a6 208 c n
    by_cases z : xan (c * 6 + n) = 0
    · obtain ⟨xst', xms', xmk', xmf', xmt', xmy', xmg', xmc', ybi', ymf', ymt', ymy', ymg', hQ, hX, hY⟩ := ih (n + 1) xst xms xmk xmf xmt xmy xmg xmc ybi ymf ymt ymy ymg (by omega) h hA
      refine ⟨xst', xms', xmk', xmf', xmt', xmy', xmg', xmc', ybi', ymf', ymt', ymy', ymg', hQ, fun post hp => ?_, fun yme yph ypn post hp => ?_⟩
      · rw [wX_endGet_87]
        dsimp only
        rw [nI_add, nI_clamp (n := c * 6 + n) (by omega)]
        exact br_f (nI_ge (by omega) (by omega)) ⟨v, br_t z (nm_r (nI_1 n) (hX post hp))⟩
      · rw [wY_getEnding_94]
        dsimp only
        rw [ix_6 c n, nI_clamp (n := c * 6 + n) (by omega)]
        exact br_f (nI_ge (by omega) (by omega)) ⟨v, br_t z (nm_r (nI_1 n) (hY yme yph ypn post hp))⟩
    · obtain ⟨y2, w1, w2, w3⟩ := h.2.2.2.2.2.2.2.2.1 c hc n (by omega) z
      have ey : y2 = y := by
        rw [hry] at w2
        exact ((nI_eq (by omega) (by omega)).mp w2).symm
      subst ey
      have hs := rs_eq w3 hA (q_cx h w1)
      by_cases u : xaw (c * 6 + n) = A
      · obtain ⟨xst', xms', xmk', xmf', xmt', xmy', xmg', xmc', ybi', ymf', ymt', ymy', ymg', hQ, hX, hY⟩ := ih (n + 1) xst xms xmk xmf xmt xmy xmg xmc ybi ymf ymt ymy ymg (by omega) h hA
        refine ⟨xst', xms', xmk', xmf', xmt', xmy', xmg', xmc', ybi', ymf', ymt', ymy', ymg', hQ, fun post hp => ?_, fun yme yph ypn post hp => ?_⟩
        · rw [wX_endGet_87]
          dsimp only
          rw [nI_add, nI_clamp (n := c * 6 + n) (by omega)]
          exact br_f (nI_ge (by omega) (by omega)) ⟨v, br_f z ⟨v, br_t u (nm_r (nI_1 n) (hX post hp))⟩⟩
        · rw [wY_getEnding_94]
          dsimp only
          rw [ix_6 c n, e2, nI_clamp (n := c * 6 + n) (by omega)]
          exact br_f (nI_ge (by omega) (by omega)) ⟨v, br_f z (y_same (r := 233) (by omega) (by omega) (fun _ => br_f (by decide) (nm_r (nI_1 n) (hY yme yph ypn post hp))) (fun w => absurd (hs.mp u) w))⟩
      · by_cases en : n = o
        · subst en
          have hq := q_jst (t := n) h (by omega) w1 hA
          have hA2 : rr_ C D (jr_ ybi 233 (n * 4 + y2)) y2 A 233 := rr_ag ag_jr (by omega) hA
          obtain ⟨xst', xms', xmk', xmf', xmt', xmy', xmg', xmc', ybi', ymf', ymt', ymy', ymg', hQ, hX, hY⟩ := ih (n + 1) _ xms xmk xmf xmt xmy xmg xmc _ ymf ymt ymy ymg (by omega) hq hA2
          refine ⟨xst', xms', xmk', xmf', xmt', xmy', xmg', xmc', ybi', ymf', ymt', ymy', ymg', hQ, fun post hp => ?_, fun yme yph ypn post hp => ?_⟩
          · rw [wX_endGet_87]
            dsimp only
            rw [nI_add, nI_clamp (n := c * 6 + n) (by omega)]
            exact br_f (nI_ge (by omega) (by omega)) ⟨v, br_f z ⟨v, br_f u (br_t rfl (x_jst (by omega) (nm_r (nI_1 n) (hX post hp))))⟩⟩
          · rw [wY_getEnding_94]
            dsimp only
            rw [ix_6 c n, e2, ix_4, nI_clamp (n := c * 6 + n) (by omega)]
            exact br_f (nI_ge (by omega) (by omega)) ⟨v, br_f z (y_same (r := 233) (by omega) (by omega) (fun w => absurd (hs.mpr w) u) (fun _ => br_t rfl (br_t rfl (y_join (q := 233) (by omega) (by omega) (nm_r (nI_1 n) (hY yme yph ypn post hp))))))⟩
        · have ne : ¬ nI n = nI o := fun w => en ((nI_eq (by omega) (by omega)).mp w)
          rcases fr_or xmk with ⟨s, s1, s2, s3⟩ | s3
          · have hq := q_put (s := s) (kk := 7) (ff := o) (tt := n) (yy := y2) (r := 233) (g := -1) (c := -1) (S := A) h s1 (by omega) (by omega) ho (by omega) w1 (by omega) (Or.inl rfl) hA
            have hA2 : rr_ C D (cp_ ybi 233 (184 + s)) y2 A 233 := rr_ag ag_cp (by omega) hA
            obtain ⟨xst', xms', xmk', xmf', xmt', xmy', xmg', xmc', ybi', ymf', ymt', ymy', ymg', hQ, hX, hY⟩ := ih (n + 1) _ _ _ _ _ _ _ _ _ _ _ _ _ (by omega) hq hA2
            refine ⟨xst', xms', xmk', xmf', xmt', xmy', xmg', xmc', ybi', ymf', ymt', ymy', ymg', hQ, fun post hp => ?_, fun yme yph ypn post hp => ?_⟩
            · rw [wX_endGet_87]
              dsimp only
              rw [nI_add, nI_clamp (n := c * 6 + n) (by omega)]
              exact br_f (nI_ge (by omega) (by omega)) ⟨v, br_f z ⟨v, br_f u (br_f ne (x_send_t s1 s2 s3 (nm_r (nI_1 n) (hX post hp))))⟩⟩
            · rw [wY_getEnding_94]
              dsimp only
              rw [ix_6 c n, e2, nI_clamp (n := c * 6 + n) (by omega)]
              exact br_f (nI_ge (by omega) (by omega)) ⟨v, br_f z (y_same (r := 233) (by omega) (by omega) (fun w => absurd (hs.mpr w) u) (fun _ => br_t rfl (br_f ne (y_send_t (r := 233) (by omega) (q_01 h) s1 s2 s3 (nm_r (nI_1 n) (hY yme yph ypn post hp))))))⟩
          · obtain ⟨xst', xms', xmk', xmf', xmt', xmy', xmg', xmc', ybi', ymf', ymt', ymy', ymg', hQ, hX, hY⟩ := ih (n + 1) xst xms xmk xmf xmt xmy xmg xmc ybi ymf ymt ymy ymg (by omega) h hA
            refine ⟨xst', xms', xmk', xmf', xmt', xmy', xmg', xmc', ybi', ymf', ymt', ymy', ymg', hQ, fun post hp => ?_, fun yme yph ypn post hp => ?_⟩
            · rw [wX_endGet_87]
              dsimp only
              rw [nI_add, nI_clamp (n := c * 6 + n) (by omega)]
              exact br_f (nI_ge (by omega) (by omega)) ⟨v, br_f z ⟨v, br_f u (br_f ne (x_send_f s3 (nm_r (nI_1 n) (hX post hp))))⟩⟩
            · rw [wY_getEnding_94]
              dsimp only
              rw [ix_6 c n, e2, nI_clamp (n := c * 6 + n) (by omega)]
              exact br_f (nI_ge (by omega) (by omega)) ⟨v, br_f z (y_same (r := 233) (by omega) (by omega) (fun w => absurd (hs.mpr w) u) (fun _ => br_t rfl (br_f ne (y_send_f s3 (nm_r (nI_1 n) (hY yme yph ypn post hp))))))⟩
theorem k_end {c y o : Nat} (h : QR ex N R K C D xls xlc xal xrg xkw xac xlv xlp xst xhi xcx xrs xry xro xan xaw xmk xmf xmt xmy xmg xmc xms ybi ywn ywm ywv yal ymf ymt ymy ymg) (hc : c < 4) (hy : y < 4) (ho : o < N) (hry : xry c = nI y) (hro : xro c = nI o) (hex : ex = c) : ∃ (xst' xms' : Nat → Int64) (xmk' xmf' xmt' xmy' xmg' xmc' ybi' ymf' ymt' ymy' ymg' : Nat → Int32), QR ex N R K C D xls xlc xal xrg xkw xac xlv xlp xst' xhi (vp_updL xcx (c * 4 + y) (un_ xan xaw c N)) xrs xry xro xan xaw xmk' xmf' xmt' xmy' xmg' xmc' xms' ybi' ywn ywm ywv yal ymf' ymt' ymy' ymg' ∧ (∀ post : SX → Prop, post (xlt, nI N, nI R, xrq, xwq, xpc, xls, xlc, nI K, xal, xrg, xkw, xac, xlv, xlp, xst', xhi, vp_updL xcx (c * 4 + y) (un_ xan xaw c N), xrs, xrk, xry, xro, xra, xrn, xan, xaw, xmk', xmf', xmt', xmy', xmg', xmc', xms', xpn) → wpX_endGet post (xlt, nI N, nI R, xrq, xwq, xpc, xls, xlc, nI K, xal, xrg, xkw, xac, xlv, xlp, xst, xhi, xcx, xrs, xrk, xry, xro, xra, xrn, xan, xaw, xmk, xmf, xmt, xmy, xmg, xmc, xms, xpn) (nI c)) ∧ (∀ (yme yph ypn : Nat → Int32) (post : SY → Prop), post (nI K, nI N, nI R, xrq, xwq, ybi', xkw, ywn, ywm, ywv, yal, xrs, xrk, xry, xro, xra, xrn, xan, xmk', ymf', ymt', ymy', ymg', xmc', yme, yph, ypn) → wpY_getEnding post (nI K, nI N, nI R, xrq, xwq, ybi, xkw, ywn, ywm, ywv, yal, xrs, xrk, xry, xro, xra, xrn, xan, xmk, ymf, ymt, ymy, ymg, xmc, yme, yph, ypn) (nI c)) := by
  have h6 := h.1.2.1
  obtain ⟨u1, u2⟩ := q_un h hc hy hry N h6
  have hq := q_cset u1 hc hy u2
  have hA : rr_ C D (cp_ (yu_ xan ybi c N) 233 (168 + c * 4 + y)) y (un_ xan xaw c N) 233 := rr_ag ag_cp (by omega) u2
  obtain ⟨xst', xms', xmk', xmf', xmt', xmy', xmg', xmc', ybi', ymf', ymt', ymy', ymg', hQ, hX, hY⟩ := k_87 hc hy ho hry hex N 0 _ _ _ _ _ _ _ _ _ _ _ _ _ (by omega) hq hA
  rw [nI_0] at hX hY
  refine ⟨xst', xms', xmk', xmf', xmt', xmy', xmg', xmc', ybi', ymf', ymt', ymy', ymg', hQ, fun post hp => ?_, fun yme yph ypn post hp => ?_⟩
  · have i : vp_in (nI c) 4 := vp_in_nI hc (by decide)
    have q := x_un h6 hc hy ⟨_, hX post hp⟩ N 0 0 (by omega)
    rw [nI_0] at q
    unfold wpX_endGet
    dsimp only
    rw [nI_clamp (n := c) (by omega), hry, hro]
    exact ⟨i, nm_e ⟨i, nm_e (nm_r (pk_mul c 6) ⟨_, q⟩)⟩⟩
  · have i : vp_in (nI c) 4 := vp_in_nI hc (by decide)
    have q := y_un h6 hc hy (q_01 u1) ⟨_, hY yme yph ypn post hp⟩ N 0 0 (by omega)
    rw [nI_0] at q
    unfold wpY_getEnding
    dsimp only
    rw [nI_clamp (n := c) (by omega), hry, hro]
    exact ⟨i, nm_e ⟨i, nm_e (y_copy (q := 234) (r := 233) (by omega) (by omega) (q_01 h) ⟨_, q⟩)⟩⟩
end
/-- an outcome of both sides, related -/
def OC (N R K : Nat) (C : Nat → Nat) (D : Nat → Nat → Nat) (xlt : Int64) (xrq xwq xpc : Int32) (xls xlc : Int64) (xal xrg xkw xac xlv : Nat → Int32) (xlp xhi : Nat → Int64) (xrk xry xro xra xrn xpn ywn ywm ywv yal : Nat → Int32) (PX : (SX → Prop) → Prop) (PY : (Nat → Int32) → (Nat → Int32) → (Nat → Int32) → (SY → Prop) → Prop) : Prop :=
  ∃ (xst' xms' xcx' xaw' : Nat → Int64) (xrs' xan' xmk' xmf' xmt' xmy' xmg' xmc' ybi' ymf' ymt' ymy' ymg' : Nat → Int32), QR 4 N R K C D xls xlc xal xrg xkw xac xlv xlp xst' xhi xcx' xrs' xry xro xan' xaw' xmk' xmf' xmt' xmy' xmg' xmc' xms' ybi' ywn ywm ywv yal ymf' ymt' ymy' ymg' ∧ (∀ post : SX → Prop, post (xlt, nI N, nI R, xrq, xwq, xpc, xls, xlc, nI K, xal, xrg, xkw, xac, xlv, xlp, xst', xhi, xcx', xrs', xrk, xry, xro, xra, xrn, xan', xaw', xmk', xmf', xmt', xmy', xmg', xmc', xms', xpn) → PX post) ∧ (∀ (yme yph ypn : Nat → Int32) (post : SY → Prop), post (nI K, nI N, nI R, xrq, xwq, ybi', xkw, ywn, ywm, ywv, yal, xrs', xrk, xry, xro, xra, xrn, xan', xmk', ymf', ymt', ymy', ymg', xmc', yme, yph, ypn) → PY yme yph ypn post)
section
variable {N R K : Nat} {xlt xls xlc : Int64} {xrq xwq xpc : Int32} {xal xrg xkw xac xlv xrs xrk xry xro xra xrn xan xmk xmf xmt xmy xmg xmc xpn ybi ywn ywm ywv yal ymf ymt ymy ymg yme yph ypn : Nat → Int32} {xlp xst xhi xcx xaw xms : Nat → Int64}
variable {ex : Nat} {C : Nat → Nat} {D : Nat → Nat → Nat}
theorem k_close {c : Nat} {q : Int32} (h : QR 4 N R K C D xls xlc xal xrg xkw xac xlv xlp xst xhi xcx xrs xry xro xan xaw xmk xmf xmt xmy xmg xmc xms ybi ywn ywm ywv yal ymf ymt ymy ymg) (hc : c < 4) (hq : ¬ q = 1) (hst : xrs c = 1) : OC N R K C D xlt xrq xwq xpc xls xlc xal xrg xkw xac xlv xlp xhi xrk xry xro xra xrn xpn ywn ywm ywv yal (fun post => wpX_closeRequest post (xlt, nI N, nI R, xrq, xwq, xpc, xls, xlc, nI K, xal, xrg, xkw, xac, xlv, xlp, xst, xhi, xcx, xrs, xrk, xry, xro, xra, xrn, xan, xaw, xmk, xmf, xmt, xmy, xmg, xmc, xms, xpn) (nI c) q) (fun yme yph ypn post => wpY_close post (nI K, nI N, nI R, xrq, xwq, ybi, xkw, ywn, ywm, ywv, yal, xrs, xrk, xry, xro, xra, xrn, xan, xmk, ymf, ymt, ymy, ymg, xmc, yme, yph, ypn) (nI c) q) := by
  have i : vp_in (nI c) 4 := vp_in_nI hc (by decide)
  have hc1 := q_close h hc hq
  obtain ⟨y, o, hy, ho, hry, hro⟩ := (h.2.2.2.2.2.2.2.1 c hc).1 hst
  have plain : (¬ xrk c = 2 ∨ ¬ q = 2) → OC N R K C D xlt xrq xwq xpc xls xlc xal xrg xkw xac xlv xlp xhi xrk xry xro xra xrn xpn ywn ywm ywv yal (fun post => wpX_closeRequest post (xlt, nI N, nI R, xrq, xwq, xpc, xls, xlc, nI K, xal, xrg, xkw, xac, xlv, xlp, xst, xhi, xcx, xrs, xrk, xry, xro, xra, xrn, xan, xaw, xmk, xmf, xmt, xmy, xmg, xmc, xms, xpn) (nI c) q) (fun yme yph ypn post => wpY_close post (nI K, nI N, nI R, xrq, xwq, ybi, xkw, ywn, ywm, ywv, yal, xrs, xrk, xry, xro, xra, xrn, xan, xmk, ymf, ymt, ymy, ymg, xmc, yme, yph, ypn) (nI c) q) := by
    intro hn
    refine ⟨xst, xms, xcx, zr_L xaw c 6, upd xrs c q, zr_ xan c 6, xmk, xmf, xmt, xmy, xmg, cl_ xmc c 24, ybi, ymf, ymt, ymy, ymg, q_disc hc1, fun post hp => ?_, fun yme yph ypn post hp => ?_⟩
    · unfold wpX_closeRequest
      dsimp only
      rw [nI_clamp (n := c) (by omega)]
      have fin : wX_closeRequest_9 post (nI c) q xlt (nI N) (nI R) xrq xwq xpc xls xlc (nI K) 1 (nI 24) xal xrg xkw xac xlv xlp xst xhi xcx (upd xrs c q) xrk xry xro xra xrn xan xaw xmk xmf xmt xmy xmg (cl_ xmc c 24) xms xpn := by
        rw [wX_closeRequest_9]
        dsimp only
        rw [nI_clamp (n := c) (by omega)]
        refine br_t (nI_le (Nat.le_refl 24) (by decide)) ⟨i, ?_⟩
        by_cases z : xrk c = 2
        · refine br_t z (br_f (hn.elim (fun w => absurd z w) id) ?_)
          exact x_disc hc hp
        · exact br_f z (x_disc hc hp)
      have l := x_clr_l fin 24 0 rfl
      rw [cl_0, nI_0] at l
      exact ⟨i, nm_e ⟨_, l⟩⟩
    · unfold wpY_close
      dsimp only
      rw [nI_clamp (n := c) (by omega)]
      have fin : wY_close_9 post (nI c) q (nI K) (nI N) (nI R) xrq xwq 1 (nI 24) ybi xkw ywn ywm ywv yal (upd xrs c q) xrk xry xro xra xrn xan xmk ymf ymt ymy ymg (cl_ xmc c 24) yme yph ypn := by
        rw [wY_close_9]
        dsimp only
        rw [nI_clamp (n := c) (by omega)]
        refine br_t (nI_le (Nat.le_refl 24) (by decide)) ⟨i, ?_⟩
        by_cases z : xrk c = 2
        · refine br_t z (br_f (hn.elim (fun w => absurd z w) id) ?_)
          exact y_dis hc hp
        · exact br_f z (y_dis hc hp)
      have l := y_clr_l fin 24 0 rfl
      rw [cl_0, nI_0] at l
      exact ⟨i, nm_e ⟨_, l⟩⟩
  by_cases z : xrk c = 2
  · by_cases z2 : q = 2
    · obtain ⟨xst', xms', xmk', xmf', xmt', xmy', xmg', xmc', ybi', ymf', ymt', ymy', ymg', hQ, hX, hY⟩ := k_end hc1 hc hy ho hry hro rfl
      refine ⟨xst', xms', vp_updL xcx (c * 4 + y) (un_ xan xaw c N), zr_L xaw c 6, upd xrs c q, zr_ xan c 6, xmk', xmf', xmt', xmy', xmg', xmc', ybi', ymf', ymt', ymy', ymg', q_disc hQ, fun post hp => ?_, fun yme yph ypn post hp => ?_⟩
      · unfold wpX_closeRequest
        dsimp only
        rw [nI_clamp (n := c) (by omega)]
        have fin : wX_closeRequest_9 post (nI c) q xlt (nI N) (nI R) xrq xwq xpc xls xlc (nI K) 1 (nI 24) xal xrg xkw xac xlv xlp xst xhi xcx (upd xrs c q) xrk xry xro xra xrn xan xaw xmk xmf xmt xmy xmg (cl_ xmc c 24) xms xpn := by
          rw [wX_closeRequest_9]
          dsimp only
          rw [nI_clamp (n := c) (by omega)]
          exact br_t (nI_le (Nat.le_refl 24) (by decide)) ⟨i, br_t z (br_t z2 (hX _ (x_disc hc hp)))⟩
        have l := x_clr_l fin 24 0 rfl
        rw [cl_0, nI_0] at l
        exact ⟨i, nm_e ⟨_, l⟩⟩
      · unfold wpY_close
        dsimp only
        rw [nI_clamp (n := c) (by omega)]
        have fin : wY_close_9 post (nI c) q (nI K) (nI N) (nI R) xrq xwq 1 (nI 24) ybi xkw ywn ywm ywv yal (upd xrs c q) xrk xry xro xra xrn xan xmk ymf ymt ymy ymg (cl_ xmc c 24) yme yph ypn := by
          rw [wY_close_9]
          dsimp only
          rw [nI_clamp (n := c) (by omega)]
          exact br_t (nI_le (Nat.le_refl 24) (by decide)) ⟨i, br_t z (br_t z2 (hY _ _ _ _ (y_dis hc hp)))⟩
        have l := y_clr_l fin 24 0 rfl
        rw [cl_0, nI_0] at l
        exact ⟨i, nm_e ⟨_, l⟩⟩
    · exact plain (Or.inr z2)
  · exact plain (Or.inl z)
theorem q_out {c : Nat} (h : QR ex N R K C D xls xlc xal xrg xkw xac xlv xlp xst xhi xcx xrs xry xro xan xaw xmk xmf xmt xmy xmg xmc xms ybi ywn ywm ywv yal ymf ymt ymy ymg) (hc : c < 4) : ∀ j, j < 24 → xmk j = 0 → ¬ xmc j = nI c := fun j hj z w => by
  have m := ((h.2.2.2.2.2.2.1 j hj).1 z).2.2.2.2
  exact nI_ne1 (n := c) (by omega) (w.symm.trans m)
theorem k_rule21 {c : Nat} {q : Int32} (h : QR 4 N R K C D xls xlc xal xrg xkw xac xlv xlp xst xhi xcx xrs xry xro xan xaw xmk xmf xmt xmy xmg xmc xms ybi ywn ywm ywv yal ymf ymt ymy ymg) (hc : c < 4) (hst : xrs c = 1) : OC N R K C D xlt xrq xwq xpc xls xlc xal xrg xkw xac xlv xlp xhi xrk xry xro xra xrn xpn ywn ywm ywv yal (fun post => wX_applyClosingRule_21 post (nI c) q xlt (nI N) (nI R) xrq xwq xpc xls xlc (nI K) xal xrg xkw xac xlv xlp xst xhi xcx xrs xrk xry xro xra xrn xan xaw xmk xmf xmt xmy xmg xmc xms xpn) (fun yme yph ypn post => wY_closingRule_21 post (nI c) q (nI K) (nI N) (nI R) xrq xwq ybi xkw ywn ywm ywv yal xrs xrk xry xro xra xrn xan xmk ymf ymt ymy ymg xmc yme yph ypn) := by
  have i : vp_in (nI c) 4 := vp_in_nI hc (by decide)
  have ho := q_out h hc
  by_cases c1 : xra c < q
  · by_cases c2 : q ≤ xra c + nI (oc_ xmc (nI c) 24)
    · refine ⟨xst, xms, xcx, xaw, xrs, xan, xmk, xmf, xmt, xmy, xmg, xmc, ybi, ymf, ymt, ymy, ymg, h, fun post hp => ?_, fun yme yph ypn post hp => ?_⟩
      · unfold wX_applyClosingRule_21
        rw [nI_clamp (n := c) (by omega)]
        exact ⟨i, nm_e (x_outs (br_t c1 (br_t c2 hp)))⟩
      · unfold wY_closingRule_21
        rw [nI_clamp (n := c) (by omega)]
        exact y_outs ho ⟨i, br_t c1 ⟨i, br_t c2 hp⟩⟩
    · obtain ⟨xst', xms', xcx', xaw', xrs', xan', xmk', xmf', xmt', xmy', xmg', xmc', ybi', ymf', ymt', ymy', ymg', hQ, hX, hY⟩ := k_close (q := 3) h hc (by decide) hst
      refine ⟨xst', xms', xcx', xaw', xrs', xan', xmk', xmf', xmt', xmy', xmg', xmc', ybi', ymf', ymt', ymy', ymg', hQ, fun post hp => ?_, fun yme yph ypn post hp => ?_⟩
      · unfold wX_applyClosingRule_21
        rw [nI_clamp (n := c) (by omega)]
        exact ⟨i, nm_e (x_outs (br_t c1 (br_f c2 (hX _ hp))))⟩
      · unfold wY_closingRule_21
        rw [nI_clamp (n := c) (by omega)]
        exact y_outs ho ⟨i, br_t c1 ⟨i, br_f c2 (hY _ _ _ _ hp)⟩⟩
  · obtain ⟨xst', xms', xcx', xaw', xrs', xan', xmk', xmf', xmt', xmy', xmg', xmc', ybi', ymf', ymt', ymy', ymg', hQ, hX, hY⟩ := k_close (q := 2) h hc (by decide) hst
    refine ⟨xst', xms', xcx', xaw', xrs', xan', xmk', xmf', xmt', xmy', xmg', xmc', ybi', ymf', ymt', ymy', ymg', hQ, fun post hp => ?_, fun yme yph ypn post hp => ?_⟩
    · unfold wX_applyClosingRule_21
      rw [nI_clamp (n := c) (by omega)]
      exact ⟨i, nm_e (x_outs (br_f c1 (hX _ hp)))⟩
    · unfold wY_closingRule_21
      rw [nI_clamp (n := c) (by omega)]
      exact y_outs ho ⟨i, br_f c1 (hY _ _ _ _ hp)⟩
theorem k_rule {c : Nat} (h : QR 4 N R K C D xls xlc xal xrg xkw xac xlv xlp xst xhi xcx xrs xry xro xan xaw xmk xmf xmt xmy xmg xmc xms ybi ywn ywm ywv yal ymf ymt ymy ymg) (hc : c < 4) (hst : xrs c = 1) : OC N R K C D xlt xrq xwq xpc xls xlc xal xrg xkw xac xlv xlp xhi xrk xry xro xra xrn xpn ywn ywm ywv yal (fun post => wpX_applyClosingRule post (xlt, nI N, nI R, xrq, xwq, xpc, xls, xlc, nI K, xal, xrg, xkw, xac, xlv, xlp, xst, xhi, xcx, xrs, xrk, xry, xro, xra, xrn, xan, xaw, xmk, xmf, xmt, xmy, xmg, xmc, xms, xpn) (nI c)) (fun yme yph ypn post => wpY_closingRule post (nI K, nI N, nI R, xrq, xwq, ybi, xkw, ywn, ywm, ywv, yal, xrs, xrk, xry, xro, xra, xrn, xan, xmk, ymf, ymt, ymy, ymg, xmc, yme, yph, ypn) (nI c)) := by
  have i : vp_in (nI c) 4 := vp_in_nI hc (by decide)
  by_cases z : xrk c = 1
  · obtain ⟨xst', xms', xcx', xaw', xrs', xan', xmk', xmf', xmt', xmy', xmg', xmc', ybi', ymf', ymt', ymy', ymg', hQ, hX, hY⟩ := k_rule21 (q := xwq) h hc hst
    refine ⟨xst', xms', xcx', xaw', xrs', xan', xmk', xmf', xmt', xmy', xmg', xmc', ybi', ymf', ymt', ymy', ymg', hQ, fun post hp => ?_, fun yme yph ypn post hp => ?_⟩
    · unfold wpX_applyClosingRule
      dsimp only
      rw [nI_clamp (n := c) (by omega)]
      exact ⟨i, br_t z (hX _ hp)⟩
    · unfold wpY_closingRule
      dsimp only
      rw [nI_clamp (n := c) (by omega)]
      exact ⟨i, br_t z (hY _ _ _ _ hp)⟩
  · obtain ⟨xst', xms', xcx', xaw', xrs', xan', xmk', xmf', xmt', xmy', xmg', xmc', ybi', ymf', ymt', ymy', ymg', hQ, hX, hY⟩ := k_rule21 (q := xrq) h hc hst
    refine ⟨xst', xms', xcx', xaw', xrs', xan', xmk', xmf', xmt', xmy', xmg', xmc', ybi', ymf', ymt', ymy', ymg', hQ, fun post hp => ?_, fun yme yph ypn post hp => ?_⟩
    · unfold wpX_applyClosingRule
      dsimp only
      rw [nI_clamp (n := c) (by omega)]
      exact ⟨i, br_f z (hX _ hp)⟩
    · unfold wpY_closingRule
      dsimp only
      rw [nI_clamp (n := c) (by omega)]
      exact ⟨i, br_f z (hY _ _ _ _ hp)⟩
end
end
section
/-! the owed relation: opened and closed by one lemma each -/
def i_Rel (k : Nat) (u : SX) (v : SY) : Prop := ∃ (N : Nat) (R : Nat) (K : Nat) (C : Nat → Nat) (D : Nat → Nat → Nat) (xlt : Int64) (xls : Int64) (xlc : Int64) (xrq : Int32) (xwq : Int32) (xpc : Int32) (xal : Nat → Int32) (xrg : Nat → Int32) (xkw : Nat → Int32) (xac : Nat → Int32) (xlv : Nat → Int32) (xlp : Nat → Int64) (xst : Nat → Int64) (xhi : Nat → Int64) (xcx : Nat → Int64) (xrs : Nat → Int32) (xrk : Nat → Int32) (xry : Nat → Int32) (xro : Nat → Int32) (xra : Nat → Int32) (xrn : Nat → Int32) (xan : Nat → Int32) (xaw : Nat → Int64) (xmk : Nat → Int32) (xmf : Nat → Int32) (xmt : Nat → Int32) (xmy : Nat → Int32) (xmg : Nat → Int32) (xmc : Nat → Int32) (xms : Nat → Int64) (xpn : Nat → Int32) (ybi : Nat → Int32) (ywn : Nat → Int32) (ywm : Nat → Int32) (ywv : Nat → Int32) (yal : Nat → Int32) (ymf : Nat → Int32) (ymt : Nat → Int32) (ymy : Nat → Int32) (ymg : Nat → Int32) (yme : Nat → Int32) (yph : Nat → Int32) (ypn : Nat → Int32), u = (xlt, nI N, nI R, xrq, xwq, xpc, xls, xlc, nI K, xal, xrg, xkw, xac, xlv, xlp, xst, xhi, xcx, xrs, xrk, xry, xro, xra, xrn, xan, xaw, xmk, xmf, xmt, xmy, xmg, xmc, xms, xpn) ∧ v = (nI K, nI N, nI R, xrq, xwq, ybi, xkw, ywn, ywm, ywv, yal, xrs, xrk, xry, xro, xra, xrn, xan, xmk, ymf, ymt, ymy, ymg, xmc, yme, yph, ypn) ∧ QR 4 N R K C D xls xlc xal xrg xkw xac xlv xlp xst xhi xcx xrs xry xro xan xaw xmk xmf xmt xmy xmg xmc xms ybi ywn ywm ywv yal ymf ymt ymy ymg
theorem i_up {k : Nat} {u : SX} {v : SY} (h : i_Rel k u v) : i_Rel (k + 5) u v := h
theorem zz_el {k : Nat} {u : SX} {v : SY} {P : SX → SY → Prop} (h : ∀ (N : Nat) (R : Nat) (K : Nat) (C : Nat → Nat) (D : Nat → Nat → Nat) (xlt : Int64) (xls : Int64) (xlc : Int64) (xrq : Int32) (xwq : Int32) (xpc : Int32) (xal : Nat → Int32) (xrg : Nat → Int32) (xkw : Nat → Int32) (xac : Nat → Int32) (xlv : Nat → Int32) (xlp : Nat → Int64) (xst : Nat → Int64) (xhi : Nat → Int64) (xcx : Nat → Int64) (xrs : Nat → Int32) (xrk : Nat → Int32) (xry : Nat → Int32) (xro : Nat → Int32) (xra : Nat → Int32) (xrn : Nat → Int32) (xan : Nat → Int32) (xaw : Nat → Int64) (xmk : Nat → Int32) (xmf : Nat → Int32) (xmt : Nat → Int32) (xmy : Nat → Int32) (xmg : Nat → Int32) (xmc : Nat → Int32) (xms : Nat → Int64) (xpn : Nat → Int32) (ybi : Nat → Int32) (ywn : Nat → Int32) (ywm : Nat → Int32) (ywv : Nat → Int32) (yal : Nat → Int32) (ymf : Nat → Int32) (ymt : Nat → Int32) (ymy : Nat → Int32) (ymg : Nat → Int32) (yme : Nat → Int32) (yph : Nat → Int32) (ypn : Nat → Int32), QR 4 N R K C D xls xlc xal xrg xkw xac xlv xlp xst xhi xcx xrs xry xro xan xaw xmk xmf xmt xmy xmg xmc xms ybi ywn ywm ywv yal ymf ymt ymy ymg → P (xlt, nI N, nI R, xrq, xwq, xpc, xls, xlc, nI K, xal, xrg, xkw, xac, xlv, xlp, xst, xhi, xcx, xrs, xrk, xry, xro, xra, xrn, xan, xaw, xmk, xmf, xmt, xmy, xmg, xmc, xms, xpn) (nI K, nI N, nI R, xrq, xwq, ybi, xkw, ywn, ywm, ywv, yal, xrs, xrk, xry, xro, xra, xrn, xan, xmk, ymf, ymt, ymy, ymg, xmc, yme, yph, ypn)) (I : i_Rel k u v) : P u v :=
  Exists.elim I (fun N I => Exists.elim I (fun R I => Exists.elim I (fun K I => Exists.elim I (fun C I => Exists.elim I (fun D I => Exists.elim I (fun xlt I => Exists.elim I (fun xls I => Exists.elim I (fun xlc I => Exists.elim I (fun xrq I => Exists.elim I (fun xwq I => Exists.elim I (fun xpc I => Exists.elim I (fun xal I => Exists.elim I (fun xrg I => Exists.elim I (fun xkw I => Exists.elim I (fun xac I => Exists.elim I (fun xlv I => Exists.elim I (fun xlp I => Exists.elim I (fun xst I => Exists.elim I (fun xhi I => Exists.elim I (fun xcx I => Exists.elim I (fun xrs I => Exists.elim I (fun xrk I => Exists.elim I (fun xry I => Exists.elim I (fun xro I => Exists.elim I (fun xra I => Exists.elim I (fun xrn I => Exists.elim I (fun xan I => Exists.elim I (fun xaw I => Exists.elim I (fun xmk I => Exists.elim I (fun xmf I => Exists.elim I (fun xmt I => Exists.elim I (fun xmy I => Exists.elim I (fun xmg I => Exists.elim I (fun xmc I => Exists.elim I (fun xms I => Exists.elim I (fun xpn I => Exists.elim I (fun ybi I => Exists.elim I (fun ywn I => Exists.elim I (fun ywm I => Exists.elim I (fun ywv I => Exists.elim I (fun yal I => Exists.elim I (fun ymf I => Exists.elim I (fun ymt I => Exists.elim I (fun ymy I => Exists.elim I (fun ymg I => Exists.elim I (fun yme I => Exists.elim I (fun yph I => Exists.elim I (fun ypn I => by
    obtain ⟨e1, e2, q⟩ := I
    subst e1 e2
    exact h N R K C D xlt xls xlc xrq xwq xpc xal xrg xkw xac xlv xlp xst xhi xcx xrs xrk xry xro xra xrn xan xaw xmk xmf xmt xmy xmg xmc xms xpn ybi ywn ywm ywv yal ymf ymt ymy ymg yme yph ypn q))))))))))))))))))))))))))))))))))))))))))))))))
section
variable {N R K : Nat} {xlt xls xlc : Int64} {xrq xwq xpc : Int32} {xal xrg xkw xac xlv xrs xrk xry xro xra xrn xan xmk xmf xmt xmy xmg xmc xpn ybi ywn ywm ywv yal ymf ymt ymy ymg yme yph ypn : Nat → Int32} {xlp xst xhi xcx xaw xms : Nat → Int64}
variable {ex : Nat} {C : Nat → Nat} {D : Nat → Nat → Nat}
theorem zz_in {k : Nat} (q : QR 4 N R K C D xls xlc xal xrg xkw xac xlv xlp xst xhi xcx xrs xry xro xan xaw xmk xmf xmt xmy xmg xmc xms ybi ywn ywm ywv yal ymf ymt ymy ymg) : i_Rel k (xlt, nI N, nI R, xrq, xwq, xpc, xls, xlc, nI K, xal, xrg, xkw, xac, xlv, xlp, xst, xhi, xcx, xrs, xrk, xry, xro, xra, xrn, xan, xaw, xmk, xmf, xmt, xmy, xmg, xmc, xms, xpn) (nI K, nI N, nI R, xrq, xwq, ybi, xkw, ywn, ywm, ywv, yal, xrs, xrk, xry, xro, xra, xrn, xan, xmk, ymf, ymt, ymy, ymg, xmc, yme, yph, ypn) :=
  Exists.intro N (Exists.intro R (Exists.intro K (Exists.intro C (Exists.intro D (Exists.intro xlt (Exists.intro xls (Exists.intro xlc (Exists.intro xrq (Exists.intro xwq (Exists.intro xpc (Exists.intro xal (Exists.intro xrg (Exists.intro xkw (Exists.intro xac (Exists.intro xlv (Exists.intro xlp (Exists.intro xst (Exists.intro xhi (Exists.intro xcx (Exists.intro xrs (Exists.intro xrk (Exists.intro xry (Exists.intro xro (Exists.intro xra (Exists.intro xrn (Exists.intro xan (Exists.intro xaw (Exists.intro xmk (Exists.intro xmf (Exists.intro xmt (Exists.intro xmy (Exists.intro xmg (Exists.intro xmc (Exists.intro xms (Exists.intro xpn (Exists.intro ybi (Exists.intro ywn (Exists.intro ywm (Exists.intro ywv (Exists.intro yal (Exists.intro ymf (Exists.intro ymt (Exists.intro ymy (Exists.intro ymg (Exists.intro yme (Exists.intro yph (Exists.intro ypn (And.intro rfl (And.intro rfl q)))))))))))))))))))))))))))))))))))))))))))))))))
end
end
section
/-! methods that only read -/
theorem rng (x : Int32) {n : Nat} (hn : n < 2 ^ 31) : (∃ j : Nat, j < n ∧ x = nI j) ∨ (x < 0 ∨ nI n ≤ x) := by
  rcases pk_ix x hn with h | h | h
  · exact Or.inr (Or.inl h)
  · exact Or.inr (Or.inr h)
  · exact Or.inl h
theorem lit_gt {x : Int32} {n : Nat} (hn : n + 1 < 2 ^ 31) (h : nI (n + 1) ≤ x) : nI n < x := Int32.lt_of_lt_of_le (nI_lt (by omega) hn) h
theorem oc_z {a : Nat → Int32} {x : Int32} : ∀ {n : Nat}, (∀ j, j < n → ¬ a j = x) → oc_ a x n = 0
  | 0, _ => rfl
  | n + 1, h => by
    simp only [oc_]
    rw [if_neg (h n (by omega)), Nat.add_zero, oc_z (fun j hj => h j (by omega))]
section
variable {N R K : Nat} {xlt xls xlc : Int64} {xrq xwq xpc : Int32} {xal xrg xkw xac xlv xrs xrk xry xro xra xrn xan xmk xmf xmt xmy xmg xmc xpn : Nat → Int32} {xlp xst xhi xcx xaw xms : Nat → Int64}
theorem x_isClient_t {post : Int32 → Prop} {c : Nat} (hc : c < 4) (h : post 1) : wpX_isClient post (xlt, nI N, nI R, xrq, xwq, xpc, xls, xlc, nI K, xal, xrg, xkw, xac, xlv, xlp, xst, xhi, xcx, xrs, xrk, xry, xro, xra, xrn, xan, xaw, xmk, xmf, xmt, xmy, xmg, xmc, xms, xpn) (nI c) := br_f (nI_pos (by omega)) (br_f (nI_ge (b := 4) hc (by decide)) h)
theorem x_isClient_f {post : Int32 → Prop} {x : Int32} (hx : x < 0 ∨ nI 4 ≤ x) (h : post 0) : wpX_isClient post (xlt, nI N, nI R, xrq, xwq, xpc, xls, xlc, nI K, xal, xrg, xkw, xac, xlv, xlp, xst, xhi, xcx, xrs, xrk, xry, xro, xra, xrn, xan, xaw, xmk, xmf, xmt, xmy, xmg, xmc, xms, xpn) x := by
  by_cases z : x < 0
  · exact br_t z h
  · exact br_f z (br_t (hx.elim (fun w => absurd w z) id) h)
theorem x_isKey_t {post : Int32 → Prop} {c : Nat} (hc : c < 4) (h : post 1) : wpX_isKey post (xlt, nI N, nI R, xrq, xwq, xpc, xls, xlc, nI K, xal, xrg, xkw, xac, xlv, xlp, xst, xhi, xcx, xrs, xrk, xry, xro, xra, xrn, xan, xaw, xmk, xmf, xmt, xmy, xmg, xmc, xms, xpn) (nI c) := br_f (nI_pos (by omega)) (br_f (nI_ge (b := 4) hc (by decide)) h)
theorem x_isKey_f {post : Int32 → Prop} {x : Int32} (hx : x < 0 ∨ nI 4 ≤ x) (h : post 0) : wpX_isKey post (xlt, nI N, nI R, xrq, xwq, xpc, xls, xlc, nI K, xal, xrg, xkw, xac, xlv, xlp, xst, xhi, xcx, xrs, xrk, xry, xro, xra, xrn, xan, xaw, xmk, xmf, xmt, xmy, xmg, xmc, xms, xpn) x := by
  by_cases z : x < 0
  · exact br_t z h
  · exact br_f z (br_t (hx.elim (fun w => absurd w z) id) h)
theorem x_isSlot_t {post : Int32 → Prop} {c : Nat} (hc : c < 24) (h : post 1) : wpX_isSlot post (xlt, nI N, nI R, xrq, xwq, xpc, xls, xlc, nI K, xal, xrg, xkw, xac, xlv, xlp, xst, xhi, xcx, xrs, xrk, xry, xro, xra, xrn, xan, xaw, xmk, xmf, xmt, xmy, xmg, xmc, xms, xpn) (nI c) := br_f (nI_pos (by omega)) (br_f (nI_ge (b := 24) hc (by decide)) h)
theorem x_isSlot_f {post : Int32 → Prop} {x : Int32} (hx : x < 0 ∨ nI 24 ≤ x) (h : post 0) : wpX_isSlot post (xlt, nI N, nI R, xrq, xwq, xpc, xls, xlc, nI K, xal, xrg, xkw, xac, xlv, xlp, xst, xhi, xcx, xrs, xrk, xry, xro, xra, xrn, xan, xaw, xmk, xmf, xmt, xmy, xmg, xmc, xms, xpn) x := by
  by_cases z : x < 0
  · exact br_t z h
  · exact br_f z (br_t (hx.elim (fun w => absurd w z) id) h)
theorem x_isNode_t {post : Int32 → Prop} {c : Nat} (h6 : N ≤ 6) (hc : c < N) (h : post 1) : wpX_isNode post (xlt, nI N, nI R, xrq, xwq, xpc, xls, xlc, nI K, xal, xrg, xkw, xac, xlv, xlp, xst, xhi, xcx, xrs, xrk, xry, xro, xra, xrn, xan, xaw, xmk, xmf, xmt, xmy, xmg, xmc, xms, xpn) (nI c) := br_f (nI_pos (by omega)) (br_f (nI_ge hc (by omega)) h)
theorem x_isNode_f {post : Int32 → Prop} {x : Int32} (hx : x < 0 ∨ nI N ≤ x) (h : post 0) : wpX_isNode post (xlt, nI N, nI R, xrq, xwq, xpc, xls, xlc, nI K, xal, xrg, xkw, xac, xlv, xlp, xst, xhi, xcx, xrs, xrk, xry, xro, xra, xrn, xan, xaw, xmk, xmf, xmt, xmy, xmg, xmc, xms, xpn) x := by
  by_cases z : x < 0
  · exact br_t z h
  · exact br_f z (br_t (hx.elim (fun w => absurd w z) id) h)
end
section
variable {N R K : Nat} {xlt xls xlc : Int64} {xrq xwq xpc : Int32} {xal xrg xkw xac xlv xrs xrk xry xro xra xrn xan xmk xmf xmt xmy xmg xmc xpn ybi ywn ywm ywv yal ymf ymt ymy ymg yme yph ypn : Nat → Int32} {xlp xst xhi xcx xaw xms : Nat → Int64}
variable {ex : Nat} {C : Nat → Nat} {D : Nat → Nat → Nat}
variable {k : Nat}
theorem m_writes (q : QR 4 N R K C D xls xlc xal xrg xkw xac xlv xlp xst xhi xcx xrs xry xro xan xaw xmk xmf xmt xmy xmg xmc xms ybi ywn ywm ywv yal ymf ymt ymy ymg) (v1 : Int32) : wpX_writes (fun r => wpY_writes (fun r' => r' = r ∧ i_Rel k (xlt, nI N, nI R, xrq, xwq, xpc, xls, xlc, nI K, xal, xrg, xkw, xac, xlv, xlp, xst, xhi, xcx, xrs, xrk, xry, xro, xra, xrn, xan, xaw, xmk, xmf, xmt, xmy, xmg, xmc, xms, xpn) (nI K, nI N, nI R, xrq, xwq, ybi, xkw, ywn, ywm, ywv, yal, xrs, xrk, xry, xro, xra, xrn, xan, xmk, ymf, ymt, ymy, ymg, xmc, yme, yph, ypn)) (nI K, nI N, nI R, xrq, xwq, ybi, xkw, ywn, ywm, ywv, yal, xrs, xrk, xry, xro, xra, xrn, xan, xmk, ymf, ymt, ymy, ymg, xmc, yme, yph, ypn) v1) (xlt, nI N, nI R, xrq, xwq, xpc, xls, xlc, nI K, xal, xrg, xkw, xac, xlv, xlp, xst, xhi, xcx, xrs, xrk, xry, xro, xra, xrn, xan, xaw, xmk, xmf, xmt, xmy, xmg, xmc, xms, xpn) v1 := by
  unfold wpX_writes wpY_writes
  dsimp only
  rcases rng v1 (n := 4) (by decide) with ⟨j, hj, rfl⟩ | hx
  · rw [nI_clamp (n := j) (by omega)]
    have v : vp_in (nI j) 4 := vp_in_nI hj (by decide)
    exact x_isKey_t hj (br_f (by decide) ⟨v, y_out_t (L := 4) hj (by decide) (br_t rfl ⟨v, rfl, zz_in q⟩)⟩)
  · exact x_isKey_f hx (br_t rfl (y_out_f (L := 4) hx (br_f (by decide) ⟨rfl, zz_in q⟩)))
theorem m_isUp (q : QR 4 N R K C D xls xlc xal xrg xkw xac xlv xlp xst xhi xcx xrs xry xro xan xaw xmk xmf xmt xmy xmg xmc xms ybi ywn ywm ywv yal ymf ymt ymy ymg) (v1 : Int32) : wpX_isUp (fun r => wpY_isUp (fun r' => r' = r ∧ i_Rel k (xlt, nI N, nI R, xrq, xwq, xpc, xls, xlc, nI K, xal, xrg, xkw, xac, xlv, xlp, xst, xhi, xcx, xrs, xrk, xry, xro, xra, xrn, xan, xaw, xmk, xmf, xmt, xmy, xmg, xmc, xms, xpn) (nI K, nI N, nI R, xrq, xwq, ybi, xkw, ywn, ywm, ywv, yal, xrs, xrk, xry, xro, xra, xrn, xan, xmk, ymf, ymt, ymy, ymg, xmc, yme, yph, ypn)) (nI K, nI N, nI R, xrq, xwq, ybi, xkw, ywn, ywm, ywv, yal, xrs, xrk, xry, xro, xra, xrn, xan, xmk, ymf, ymt, ymy, ymg, xmc, yme, yph, ypn) v1) (xlt, nI N, nI R, xrq, xwq, xpc, xls, xlc, nI K, xal, xrg, xkw, xac, xlv, xlp, xst, xhi, xcx, xrs, xrk, xry, xro, xra, xrn, xan, xaw, xmk, xmf, xmt, xmy, xmg, xmc, xms, xpn) v1 := by
  have h6 := q.1.2.1
  unfold wpX_isUp wpY_isUp
  dsimp only
  rcases rng v1 (n := N) (by omega) with ⟨j, hj, rfl⟩ | hx
  · rw [nI_clamp (n := j) (by omega)]
    have v : vp_in (nI j) 6 := vp_in_nI (by omega) (by decide)
    have e := q.2.1 j hj
    refine x_isNode_t h6 hj (br_f (by decide) ⟨v, ?_⟩)
    by_cases z : xal j = 0
    · exact br_t z (y_out_t hj (by omega) (br_t rfl ⟨v, br_t (e.symm.trans z) ⟨rfl, zz_in q⟩⟩))
    · exact br_f z (y_out_t hj (by omega) (br_t rfl ⟨v, br_f (fun w => z (e.trans w)) ⟨rfl, zz_in q⟩⟩))
  · exact x_isNode_f hx (br_t rfl (y_out_f hx (br_f (by decide) ⟨rfl, zz_in q⟩)))
theorem m_setting (q : QR 4 N R K C D xls xlc xal xrg xkw xac xlv xlp xst xhi xcx xrs xry xro xan xaw xmk xmf xmt xmy xmg xmc xms ybi ywn ywm ywv yal ymf ymt ymy ymg) (v1 : Int32) : wpX_setting (fun r => wpY_setting (fun r' => r' = r ∧ i_Rel k (xlt, nI N, nI R, xrq, xwq, xpc, xls, xlc, nI K, xal, xrg, xkw, xac, xlv, xlp, xst, xhi, xcx, xrs, xrk, xry, xro, xra, xrn, xan, xaw, xmk, xmf, xmt, xmy, xmg, xmc, xms, xpn) (nI K, nI N, nI R, xrq, xwq, ybi, xkw, ywn, ywm, ywv, yal, xrs, xrk, xry, xro, xra, xrn, xan, xmk, ymf, ymt, ymy, ymg, xmc, yme, yph, ypn)) (nI K, nI N, nI R, xrq, xwq, ybi, xkw, ywn, ywm, ywv, yal, xrs, xrk, xry, xro, xra, xrn, xan, xmk, ymf, ymt, ymy, ymg, xmc, yme, yph, ypn) v1) (xlt, nI N, nI R, xrq, xwq, xpc, xls, xlc, nI K, xal, xrg, xkw, xac, xlv, xlp, xst, xhi, xcx, xrs, xrk, xry, xro, xra, xrn, xan, xaw, xmk, xmf, xmt, xmy, xmg, xmc, xms, xpn) v1 := by
  unfold wpX_setting wpY_setting
  dsimp only
  rcases rng v1 (n := 4) (by decide) with ⟨j, hj, rfl⟩ | hx
  · have c : j = 0 ∨ j = 1 ∨ j = 2 ∨ j = 3 := by omega
    rcases c with rfl | rfl | rfl | rfl
    · exact br_f (by decide) (br_f (by decide) (br_t rfl (br_t rfl ⟨rfl, zz_in q⟩)))
    · exact br_f (by decide) (br_f (by decide) (br_f (by decide) (br_t rfl (br_f (by decide) (br_t rfl ⟨rfl, zz_in q⟩)))))
    · exact br_f (by decide) (br_f (by decide) (br_f (by decide) (br_f (by decide) (br_t rfl (br_f (by decide) (br_f (by decide) (br_t rfl ⟨rfl, zz_in q⟩)))))))
    · exact br_f (by decide) (br_f (by decide) (br_f (by decide) (br_f (by decide) (br_f (by decide) (br_t rfl (br_f (by decide) (br_f (by decide) (br_f (by decide) (br_t rfl ⟨rfl, zz_in q⟩)))))))))
  · have ne : ∀ j, j < 4 → ¬ v1 = nI j := fun j hj e => by
      subst e
      rcases hx with w | w
      · exact nI_pos (n := j) (by omega) w
      · exact nI_ge (b := 4) hj (by decide) w
    by_cases z : v1 < 0
    · exact br_t z (br_f (ne 0 (by omega)) (br_f (ne 1 (by omega)) (br_f (ne 2 (by omega)) (br_f (ne 3 (by omega)) ⟨rfl, zz_in q⟩))))
    · exact br_f z (br_t (lit_gt (n := 3) (by decide) (hx.elim (fun w => absurd w z) id)) (br_f (ne 0 (by omega)) (br_f (ne 1 (by omega)) (br_f (ne 2 (by omega)) (br_f (ne 3 (by omega)) ⟨rfl, zz_in q⟩)))))
theorem m_order (q : QR 4 N R K C D xls xlc xal xrg xkw xac xlv xlp xst xhi xcx xrs xry xro xan xaw xmk xmf xmt xmy xmg xmc xms ybi ywn ywm ywv yal ymf ymt ymy ymg) (v1 v2 : Int32) : wpX_order (fun r => wpY_order (fun r' v' => r' = r ∧ i_Rel k (xlt, nI N, nI R, xrq, xwq, xpc, xls, xlc, nI K, xal, xrg, xkw, xac, xlv, xlp, xst, xhi, xcx, xrs, xrk, xry, xro, xra, xrn, xan, xaw, xmk, xmf, xmt, xmy, xmg, xmc, xms, xpn) v') (nI K, nI N, nI R, xrq, xwq, ybi, xkw, ywn, ywm, ywv, yal, xrs, xrk, xry, xro, xra, xrn, xan, xmk, ymf, ymt, ymy, ymg, xmc, yme, yph, ypn) v1 v2) (xlt, nI N, nI R, xrq, xwq, xpc, xls, xlc, nI K, xal, xrg, xkw, xac, xlv, xlp, xst, xhi, xcx, xrs, xrk, xry, xro, xra, xrn, xan, xaw, xmk, xmf, xmt, xmy, xmg, xmc, xms, xpn) v1 v2 := by
  have h6 := q.1.2.1
  unfold wpX_order wpY_order
  dsimp only
  rcases rng v1 (n := 4) (by decide) with ⟨j, hj, rfl⟩ | hx
  · rcases rng v2 (n := N) (by omega) with ⟨p, hp, rfl⟩ | hx
    · refine x_isKey_t hj (br_f (by decide) (x_isNode_t h6 hp (br_f (by decide) ?_)))
      rw [ix_6, nI_clamp (n := j * 6 + p) (by omega), q.2.2.1 j hj p hp]
      refine ⟨vp_in_nI (by omega) (by decide), ?_⟩
      exact y_out_t (L := 4) hj (by decide) (br_t rfl (y_out_t hp (by omega) (br_t rfl (y_nod q.1.1 h6 hj hp (fun me => ⟨rfl, zz_in q⟩)))))
    · exact x_isKey_t hj (br_f (by decide) (x_isNode_f hx (br_t rfl (y_out_t (L := 4) hj (by decide) (br_t rfl (y_out_f hx (br_f (by decide) ⟨rfl, zz_in q⟩)))))))
  · exact x_isKey_f hx (br_t rfl (y_out_f (L := 4) hx (br_f (by decide) ⟨rfl, zz_in q⟩)))
theorem m_compare (q : QR 4 N R K C D xls xlc xal xrg xkw xac xlv xlp xst xhi xcx xrs xry xro xan xaw xmk xmf xmt xmy xmg xmc xms ybi ywn ywm ywv yal ymf ymt ymy ymg) (v1 v2 v3 : Int32) : wpX_compare (fun r => wpY_compare (fun r' => r' = r ∧ i_Rel k (xlt, nI N, nI R, xrq, xwq, xpc, xls, xlc, nI K, xal, xrg, xkw, xac, xlv, xlp, xst, xhi, xcx, xrs, xrk, xry, xro, xra, xrn, xan, xaw, xmk, xmf, xmt, xmy, xmg, xmc, xms, xpn) (nI K, nI N, nI R, xrq, xwq, ybi, xkw, ywn, ywm, ywv, yal, xrs, xrk, xry, xro, xra, xrn, xan, xmk, ymf, ymt, ymy, ymg, xmc, yme, yph, ypn)) (nI K, nI N, nI R, xrq, xwq, ybi, xkw, ywn, ywm, ywv, yal, xrs, xrk, xry, xro, xra, xrn, xan, xmk, ymf, ymt, ymy, ymg, xmc, yme, yph, ypn) v1 v2 v3) (xlt, nI N, nI R, xrq, xwq, xpc, xls, xlc, nI K, xal, xrg, xkw, xac, xlv, xlp, xst, xhi, xcx, xrs, xrk, xry, xro, xra, xrn, xan, xaw, xmk, xmf, xmt, xmy, xmg, xmc, xms, xpn) v1 v2 v3 := by
  have h6 := q.1.2.1
  unfold wpX_compare wpY_compare
  dsimp only
  rcases rng v1 (n := 4) (by decide) with ⟨y, hy, rfl⟩ | hx
  · rcases rng v2 (n := N) (by omega) with ⟨a, ha, rfl⟩ | hx
    · rcases rng v3 (n := N) (by omega) with ⟨b, hb, rfl⟩ | hx
      · have ra := q_st q hy (t := a) (by omega)
        have rb := q_st q hy (t := b) (by omega)
        have cx := q_cx q hy
        have oa := rs_ok cx ra
        have ob := rs_ok cx rb
        have s1 := rs_sub ra rb cx
        have s2 := rs_sub rb ra cx
        have s0 := rs_eq ra rb cx
        refine x_isKey_t hy (br_f (by decide) (x_isNode_t h6 ha (br_f (by decide) (x_isNode_t h6 hb (br_f (by decide) ?_)))))
        rw [ix_4 a y, ix_4 b y, nI_clamp (n := a * 4 + y) (by omega), nI_clamp (n := b * 4 + y) (by omega)]
        refine ⟨vp_in_nI (by omega) (by decide), nm_e ⟨vp_in_nI (by omega) (by decide), nm_e ?_⟩⟩
        have Y : ∀ r : Int32, ((∀ t, t < 40 → ¬ ybi ((a * 4 + y) * 40 + t) = 0 → ¬ ybi ((b * 4 + y) * 40 + t) = 0) → (∀ t, t < 40 → ¬ ybi ((b * 4 + y) * 40 + t) = 0 → ¬ ybi ((a * 4 + y) * 40 + t) = 0) → 0 = r) → ((∀ t, t < 40 → ¬ ybi ((a * 4 + y) * 40 + t) = 0 → ¬ ybi ((b * 4 + y) * 40 + t) = 0) → ¬ (∀ t, t < 40 → ¬ ybi ((b * 4 + y) * 40 + t) = 0 → ¬ ybi ((a * 4 + y) * 40 + t) = 0) → 1 = r) → (¬ (∀ t, t < 40 → ¬ ybi ((a * 4 + y) * 40 + t) = 0 → ¬ ybi ((b * 4 + y) * 40 + t) = 0) → (∀ t, t < 40 → ¬ ybi ((b * 4 + y) * 40 + t) = 0 → ¬ ybi ((a * 4 + y) * 40 + t) = 0) → 2 = r) → (¬ (∀ t, t < 40 → ¬ ybi ((a * 4 + y) * 40 + t) = 0 → ¬ ybi ((b * 4 + y) * 40 + t) = 0) → ¬ (∀ t, t < 40 → ¬ ybi ((b * 4 + y) * 40 + t) = 0 → ¬ ybi ((a * 4 + y) * 40 + t) = 0) → 3 = r) → wpY_out (fun r_1 => (((r_1 = 0 → (wpY_out (fun r_30 => (((r_30 = 0 → (wpY_out (fun r_59 => (((r_59 = 0 → (wpY_subset (fun r_88 => (wpY_subset (fun r_116 => (((r_88 = 0 → (wY_compare_79 (fun r' => r' = r ∧ i_Rel k (xlt, nI N, nI R, xrq, xwq, xpc, xls, xlc, nI K, xal, xrg, xkw, xac, xlv, xlp, xst, xhi, xcx, xrs, xrk, xry, xro, xra, xrn, xan, xaw, xmk, xmf, xmt, xmy, xmg, xmc, xms, xpn) (nI K, nI N, nI R, xrq, xwq, ybi, xkw, ywn, ywm, ywv, yal, xrs, xrk, xry, xro, xra, xrn, xan, xmk, ymf, ymt, ymy, ymg, xmc, yme, yph, ypn)) r_88 r_116 (nI K) (nI N) (nI R) xrq xwq ybi xkw ywn ywm ywv yal xrs xrk xry xro xra xrn xan xmk ymf ymt ymy ymg xmc yme yph ypn)) ∧ (¬ r_88 = 0 → (((r_116 = 0 → (wY_compare_79 (fun r' => r' = r ∧ i_Rel k (xlt, nI N, nI R, xrq, xwq, xpc, xls, xlc, nI K, xal, xrg, xkw, xac, xlv, xlp, xst, xhi, xcx, xrs, xrk, xry, xro, xra, xrn, xan, xaw, xmk, xmf, xmt, xmy, xmg, xmc, xms, xpn) (nI K, nI N, nI R, xrq, xwq, ybi, xkw, ywn, ywm, ywv, yal, xrs, xrk, xry, xro, xra, xrn, xan, xmk, ymf, ymt, ymy, ymg, xmc, yme, yph, ypn)) r_88 r_116 (nI K) (nI N) (nI R) xrq xwq ybi xkw ywn ywm ywv yal xrs xrk xry xro xra xrn xan xmk ymf ymt ymy ymg xmc yme yph ypn)) ∧ (¬ r_116 = 0 → (0 = r ∧ i_Rel k (xlt, nI N, nI R, xrq, xwq, xpc, xls, xlc, nI K, xal, xrg, xkw, xac, xlv, xlp, xst, xhi, xcx, xrs, xrk, xry, xro, xra, xrn, xan, xaw, xmk, xmf, xmt, xmy, xmg, xmc, xms, xpn) (nI K, nI N, nI R, xrq, xwq, ybi, xkw, ywn, ywm, ywv, yal, xrs, xrk, xry, xro, xra, xrn, xan, xmk, ymf, ymt, ymy, ymg, xmc, yme, yph, ypn))))))))) (nI K, nI N, nI R, xrq, xwq, ybi, xkw, ywn, ywm, ywv, yal, xrs, xrk, xry, xro, xra, xrn, xan, xmk, ymf, ymt, ymy, ymg, xmc, yme, yph, ypn) (nI (b * 4 + y)) (nI (a * 4 + y)))) (nI K, nI N, nI R, xrq, xwq, ybi, xkw, ywn, ywm, ywv, yal, xrs, xrk, xry, xro, xra, xrn, xan, xmk, ymf, ymt, ymy, ymg, xmc, yme, yph, ypn) (nI (a * 4 + y)) (nI (b * 4 + y)))) ∧ (¬ r_59 = 0 → (-1 = r ∧ i_Rel k (xlt, nI N, nI R, xrq, xwq, xpc, xls, xlc, nI K, xal, xrg, xkw, xac, xlv, xlp, xst, xhi, xcx, xrs, xrk, xry, xro, xra, xrn, xan, xaw, xmk, xmf, xmt, xmy, xmg, xmc, xms, xpn) (nI K, nI N, nI R, xrq, xwq, ybi, xkw, ywn, ywm, ywv, yal, xrs, xrk, xry, xro, xra, xrn, xan, xmk, ymf, ymt, ymy, ymg, xmc, yme, yph, ypn)))))) (nI K, nI N, nI R, xrq, xwq, ybi, xkw, ywn, ywm, ywv, yal, xrs, xrk, xry, xro, xra, xrn, xan, xmk, ymf, ymt, ymy, ymg, xmc, yme, yph, ypn) (nI b) (nI N))) ∧ (¬ r_30 = 0 → (-1 = r ∧ i_Rel k (xlt, nI N, nI R, xrq, xwq, xpc, xls, xlc, nI K, xal, xrg, xkw, xac, xlv, xlp, xst, xhi, xcx, xrs, xrk, xry, xro, xra, xrn, xan, xaw, xmk, xmf, xmt, xmy, xmg, xmc, xms, xpn) (nI K, nI N, nI R, xrq, xwq, ybi, xkw, ywn, ywm, ywv, yal, xrs, xrk, xry, xro, xra, xrn, xan, xmk, ymf, ymt, ymy, ymg, xmc, yme, yph, ypn)))))) (nI K, nI N, nI R, xrq, xwq, ybi, xkw, ywn, ywm, ywv, yal, xrs, xrk, xry, xro, xra, xrn, xan, xmk, ymf, ymt, ymy, ymg, xmc, yme, yph, ypn) (nI a) (nI N))) ∧ (¬ r_1 = 0 → (-1 = r ∧ i_Rel k (xlt, nI N, nI R, xrq, xwq, xpc, xls, xlc, nI K, xal, xrg, xkw, xac, xlv, xlp, xst, xhi, xcx, xrs, xrk, xry, xro, xra, xrn, xan, xaw, xmk, xmf, xmt, xmy, xmg, xmc, xms, xpn) (nI K, nI N, nI R, xrq, xwq, ybi, xkw, ywn, ywm, ywv, yal, xrs, xrk, xry, xro, xra, xrn, xan, xmk, ymf, ymt, ymy, ymg, xmc, yme, yph, ypn)))))) (nI K, nI N, nI R, xrq, xwq, ybi, xkw, ywn, ywm, ywv, yal, xrs, xrk, xry, xro, xra, xrn, xan, xmk, ymf, ymt, ymy, ymg, xmc, yme, yph, ypn) (nI y) 4 := by
          intro r r0 r1 r2 r3
          refine y_out_t (L := 4) hy (by decide) (br_t rfl (y_out_t ha (by omega) (br_t rfl (y_out_t hb (by omega) (br_t rfl ?_)))))
          refine y_sub (by omega) (by omega) (fun a1 => ?_) (fun a1 => ?_)
          · refine y_sub (by omega) (by omega) (fun a2 => ?_) (fun a2 => ?_)
            · exact br_f (by decide) (br_f (by decide) ⟨r0 a1 a2, zz_in q⟩)
            · exact br_f (by decide) (br_t rfl (br_f (by decide) ⟨r1 a1 a2, zz_in q⟩))
          · refine y_sub (by omega) (by omega) (fun a2 => ?_) (fun a2 => ?_)
            · exact br_t rfl (br_t rfl (br_f (by decide) ⟨r2 a1 a2, zz_in q⟩))
            · exact br_t rfl (br_t rfl (br_t rfl ⟨r3 a1 a2, zz_in q⟩))
        refine br_c (fun e => ?_) (fun e => x_sub oa ob (fun w1 => br_f (by decide) ?_) (fun w1 => br_t rfl (x_sub ob oa (fun w2 => br_f (by decide) ?_) (fun w2 => br_t rfl ?_))))
        · have e2 := s0.mp e
          refine Y 0 (fun _ _ => rfl) (fun _ w => absurd (fun t ht => (e2 t ht).mpr) w) (fun w _ => absurd (fun t ht => (e2 t ht).mp) w) (fun w _ => absurd (fun t ht => (e2 t ht).mp) w)
        · have w1' := s1.mp w1
          exact Y 1 (fun _ w => absurd (s0.mpr (fun t ht => ⟨w1' t ht, w t ht⟩)) e) (fun _ _ => rfl) (fun w _ => absurd w1' w) (fun w _ => absurd w1' w)
        · have w2' := s2.mp w2
          exact Y 2 (fun w _ => absurd (s1.mpr w) w1) (fun w _ => absurd (s1.mpr w) w1) (fun _ _ => rfl) (fun _ w => absurd w2' w)
        · exact Y 3 (fun w _ => absurd (s1.mpr w) w1) (fun w _ => absurd (s1.mpr w) w1) (fun _ w => absurd (s2.mpr w) w2) (fun _ _ => rfl)
      · exact x_isKey_t hy (br_f (by decide) (x_isNode_t h6 ha (br_f (by decide) (x_isNode_f hx (br_t rfl (y_out_t (L := 4) hy (by decide) (br_t rfl (y_out_t ha (by omega) (br_t rfl (y_out_f hx (br_f (by decide) ⟨rfl, zz_in q⟩)))))))))))
    · exact x_isKey_t hy (br_f (by decide) (x_isNode_f hx (br_t rfl (y_out_t (L := 4) hy (by decide) (br_t rfl (y_out_f hx (br_f (by decide) ⟨rfl, zz_in q⟩)))))))
  · exact x_isKey_f hx (br_t rfl (y_out_f (L := 4) hx (br_f (by decide) ⟨rfl, zz_in q⟩)))
theorem m_request (q : QR 4 N R K C D xls xlc xal xrg xkw xac xlv xlp xst xhi xcx xrs xry xro xan xaw xmk xmf xmt xmy xmg xmc xms ybi ywn ywm ywv yal ymf ymt ymy ymg) (v1 v2 : Int32) : wpX_request (fun r => wpY_request (fun r' => r' = r ∧ i_Rel k (xlt, nI N, nI R, xrq, xwq, xpc, xls, xlc, nI K, xal, xrg, xkw, xac, xlv, xlp, xst, xhi, xcx, xrs, xrk, xry, xro, xra, xrn, xan, xaw, xmk, xmf, xmt, xmy, xmg, xmc, xms, xpn) (nI K, nI N, nI R, xrq, xwq, ybi, xkw, ywn, ywm, ywv, yal, xrs, xrk, xry, xro, xra, xrn, xan, xmk, ymf, ymt, ymy, ymg, xmc, yme, yph, ypn)) (nI K, nI N, nI R, xrq, xwq, ybi, xkw, ywn, ywm, ywv, yal, xrs, xrk, xry, xro, xra, xrn, xan, xmk, ymf, ymt, ymy, ymg, xmc, yme, yph, ypn) v1 v2) (xlt, nI N, nI R, xrq, xwq, xpc, xls, xlc, nI K, xal, xrg, xkw, xac, xlv, xlp, xst, xhi, xcx, xrs, xrk, xry, xro, xra, xrn, xan, xaw, xmk, xmf, xmt, xmy, xmg, xmc, xms, xpn) v1 v2 := by
  unfold wpX_request wpY_request
  dsimp only
  rcases rng v1 (n := 4) (by decide) with ⟨c, hc, rfl⟩ | hx
  · rw [nI_clamp (n := c) (by omega)]
    have v : vp_in (nI c) 4 := vp_in_nI hc (by decide)
    refine x_isClient_t hc (br_f (by decide) ?_)
    rcases rng v2 (n := 7) (by decide) with ⟨j, hj, rfl⟩ | hx
    · have cs : j = 0 ∨ j = 1 ∨ j = 2 ∨ j = 3 ∨ j = 4 ∨ j = 5 ∨ j = 6 := by omega
      refine br_f (nI_pos (by omega)) (br_f (nI_nlt (b := j) (a := 6) (by omega) (by decide)) ?_)
      rcases cs with rfl | rfl | rfl | rfl | rfl | rfl | rfl
      · exact br_t rfl ⟨v, y_out_t (L := 4) hc (by decide) (br_t rfl (y_out_t (L := 7) hj (by decide) (br_t rfl (br_t rfl ⟨v, rfl, zz_in q⟩))))⟩
      · exact br_f (by decide) (br_t rfl ⟨v, y_out_t (L := 4) hc (by decide) (br_t rfl (y_out_t (L := 7) hj (by decide) (br_t rfl (br_f (by decide) (br_t rfl ⟨v, rfl, zz_in q⟩)))))⟩)
      · exact br_f (by decide) (br_f (by decide) (br_t rfl ⟨v, y_out_t (L := 4) hc (by decide) (br_t rfl (y_out_t (L := 7) hj (by decide) (br_t rfl (br_f (by decide) (br_f (by decide) (br_t rfl ⟨v, rfl, zz_in q⟩))))))⟩))
      · exact br_f (by decide) (br_f (by decide) (br_f (by decide) (br_t rfl ⟨v, y_out_t (L := 4) hc (by decide) (br_t rfl (y_out_t (L := 7) hj (by decide) (br_t rfl (br_f (by decide) (br_f (by decide) (br_f (by decide) (br_t rfl ⟨v, rfl, zz_in q⟩)))))))⟩)))
      · exact br_f (by decide) (br_f (by decide) (br_f (by decide) (br_f (by decide) (br_t rfl ⟨v, y_out_t (L := 4) hc (by decide) (br_t rfl (y_out_t (L := 7) hj (by decide) (br_t rfl (br_f (by decide) (br_f (by decide) (br_f (by decide) (br_f (by decide) (br_t rfl ⟨v, rfl, zz_in q⟩))))))))⟩))))
      · refine br_f (by decide) (br_f (by decide) (br_f (by decide) (br_f (by decide) (br_f (by decide) (br_t rfl (x_outs (y_out_t (L := 4) hc (by decide) (br_t rfl (y_out_t (L := 7) hj (by decide) (br_t rfl (br_f (by decide) (br_f (by decide) (br_f (by decide) (br_f (by decide) (br_f (by decide) (br_t rfl ⟨v, ?_⟩))))))))))))))))
        refine br_c (fun w => y_outs (q_out q hc) ⟨rfl, zz_in q⟩) (fun w => ⟨?_, zz_in q⟩)
        rw [oc_z (fun j hj e => ?_), nI_0]
        have m := q.2.2.2.2.2.2.1 j hj
        by_cases z : xmk j = 0
        · exact q_out q hc j hj z e
        · obtain ⟨k2, ff, tt, y2, a1, a2, a3, a4, a5, a6, a7, a8, a9, a10, a11, a12, a13, a14, a15⟩ := m.2 z
          rcases a14 with u | ⟨cc, u1, u2, u3, u4⟩
          · exact nI_ne1 (n := c) (by omega) (e.symm.trans u)
          · have ec : c = cc := (nI_eq (by omega) (by omega)).mp (e.symm.trans u2)
            rw [ec] at w
            exact w u3
      · exact br_f (by decide) (br_f (by decide) (br_f (by decide) (br_f (by decide) (br_f (by decide) (br_f (by decide) (br_t rfl ⟨v, y_out_t (L := 4) hc (by decide) (br_t rfl (y_out_t (L := 7) hj (by decide) (br_t rfl (br_f (by decide) (br_f (by decide) (br_f (by decide) (br_f (by decide) (br_f (by decide) (br_f (by decide) ⟨v, rfl, zz_in q⟩)))))))))⟩))))))
    · by_cases z : v2 < 0
      · exact br_t z (y_out_t (L := 4) hc (by decide) (br_t rfl (y_out_f (L := 7) hx (br_f (by decide) ⟨rfl, zz_in q⟩))))
      · exact br_f z (br_t (lit_gt (n := 6) (by decide) (hx.elim (fun w => absurd w z) id)) (y_out_t (L := 4) hc (by decide) (br_t rfl (y_out_f (L := 7) hx (br_f (by decide) ⟨rfl, zz_in q⟩)))))
  · exact x_isClient_f hx (br_t rfl (y_out_f (L := 4) hx (br_f (by decide) ⟨rfl, zz_in q⟩)))
theorem m_message (q : QR 4 N R K C D xls xlc xal xrg xkw xac xlv xlp xst xhi xcx xrs xry xro xan xaw xmk xmf xmt xmy xmg xmc xms ybi ywn ywm ywv yal ymf ymt ymy ymg) (v1 v2 : Int32) : wpX_message (fun r => wpY_message (fun r' => r' = r ∧ i_Rel k (xlt, nI N, nI R, xrq, xwq, xpc, xls, xlc, nI K, xal, xrg, xkw, xac, xlv, xlp, xst, xhi, xcx, xrs, xrk, xry, xro, xra, xrn, xan, xaw, xmk, xmf, xmt, xmy, xmg, xmc, xms, xpn) (nI K, nI N, nI R, xrq, xwq, ybi, xkw, ywn, ywm, ywv, yal, xrs, xrk, xry, xro, xra, xrn, xan, xmk, ymf, ymt, ymy, ymg, xmc, yme, yph, ypn)) (nI K, nI N, nI R, xrq, xwq, ybi, xkw, ywn, ywm, ywv, yal, xrs, xrk, xry, xro, xra, xrn, xan, xmk, ymf, ymt, ymy, ymg, xmc, yme, yph, ypn) v1 v2) (xlt, nI N, nI R, xrq, xwq, xpc, xls, xlc, nI K, xal, xrg, xkw, xac, xlv, xlp, xst, xhi, xcx, xrs, xrk, xry, xro, xra, xrn, xan, xaw, xmk, xmf, xmt, xmy, xmg, xmc, xms, xpn) v1 v2 := by
  unfold wpX_message wpY_message
  dsimp only
  rcases rng v1 (n := 24) (by decide) with ⟨s, hs, rfl⟩ | hx
  · rw [nI_clamp (n := s) (by omega)]
    have v : vp_in (nI s) 24 := vp_in_nI hs (by decide)
    have m := q.2.2.2.2.2.2.1 s hs
    refine x_isSlot_t hs (br_f (by decide) ?_)
    rcases rng v2 (n := 6) (by decide) with ⟨j, hj, rfl⟩ | hx
    · have cs : j = 0 ∨ j = 1 ∨ j = 2 ∨ j = 3 ∨ j = 4 ∨ j = 5 := by omega
      refine br_f (nI_pos (by omega)) (br_f (nI_nlt (b := j) (a := 5) (by omega) (by decide)) ?_)
      by_cases z : xmk s = 0
      · obtain ⟨e1, e2, e3, e4, e5⟩ := m.1 z
        rcases cs with rfl | rfl | rfl | rfl | rfl | rfl
        · exact br_t rfl ⟨v, y_out_t (L := 24) hs (by decide) (br_t rfl (y_out_t (L := 6) hj (by decide) (br_t rfl (br_t rfl ⟨v, rfl, zz_in q⟩))))⟩
        · exact br_f (by decide) (br_t rfl ⟨v, y_out_t (L := 24) hs (by decide) (br_t rfl (y_out_t (L := 6) hj (by decide) (br_t rfl (br_f (by decide) ⟨v, br_t z ⟨e1.symm, zz_in q⟩⟩))))⟩)
        · exact br_f (by decide) (br_f (by decide) (br_t rfl ⟨v, y_out_t (L := 24) hs (by decide) (br_t rfl (y_out_t (L := 6) hj (by decide) (br_t rfl (br_f (by decide) ⟨v, br_t z ⟨e2.symm, zz_in q⟩⟩))))⟩))
        · exact br_f (by decide) (br_f (by decide) (br_f (by decide) (br_t rfl ⟨v, y_out_t (L := 24) hs (by decide) (br_t rfl (y_out_t (L := 6) hj (by decide) (br_t rfl (br_f (by decide) ⟨v, br_t z ⟨e3.symm, zz_in q⟩⟩))))⟩)))
        · exact br_f (by decide) (br_f (by decide) (br_f (by decide) (br_f (by decide) (br_t rfl ⟨v, y_out_t (L := 24) hs (by decide) (br_t rfl (y_out_t (L := 6) hj (by decide) (br_t rfl (br_f (by decide) ⟨v, br_t z ⟨e4.symm, zz_in q⟩⟩))))⟩))))
        · exact br_f (by decide) (br_f (by decide) (br_f (by decide) (br_f (by decide) (br_f (by decide) (br_t rfl ⟨v, y_out_t (L := 24) hs (by decide) (br_t rfl (y_out_t (L := 6) hj (by decide) (br_t rfl (br_f (by decide) ⟨v, br_t z ⟨e5.symm, zz_in q⟩⟩))))⟩)))))
      · obtain ⟨k2, ff, tt, y2, a1, a2, a3, a4, a5, a6, a7, a8, a9, a10, a11, a12, a13, a14, a15⟩ := m.2 z
        rcases cs with rfl | rfl | rfl | rfl | rfl | rfl
        · exact br_t rfl ⟨v, y_out_t (L := 24) hs (by decide) (br_t rfl (y_out_t (L := 6) hj (by decide) (br_t rfl (br_t rfl ⟨v, rfl, zz_in q⟩))))⟩
        · exact br_f (by decide) (br_t rfl ⟨v, y_out_t (L := 24) hs (by decide) (br_t rfl (y_out_t (L := 6) hj (by decide) (br_t rfl (br_f (by decide) ⟨v, br_f z (br_t rfl ⟨v, a7.trans a6.symm, zz_in q⟩)⟩))))⟩)
        · exact br_f (by decide) (br_f (by decide) (br_t rfl ⟨v, y_out_t (L := 24) hs (by decide) (br_t rfl (y_out_t (L := 6) hj (by decide) (br_t rfl (br_f (by decide) ⟨v, br_f z (br_f (by decide) (br_t rfl ⟨v, a9.trans a8.symm, zz_in q⟩))⟩))))⟩))
        · exact br_f (by decide) (br_f (by decide) (br_f (by decide) (br_t rfl ⟨v, y_out_t (L := 24) hs (by decide) (br_t rfl (y_out_t (L := 6) hj (by decide) (br_t rfl (br_f (by decide) ⟨v, br_f z (br_f (by decide) (br_f (by decide) (br_t rfl ⟨v, a11.trans a10.symm, zz_in q⟩)))⟩))))⟩)))
        · exact br_f (by decide) (br_f (by decide) (br_f (by decide) (br_f (by decide) (br_t rfl ⟨v, y_out_t (L := 24) hs (by decide) (br_t rfl (y_out_t (L := 6) hj (by decide) (br_t rfl (br_f (by decide) ⟨v, br_f z (br_f (by decide) (br_f (by decide) (br_f (by decide) (br_t rfl ⟨v, a12, zz_in q⟩))))⟩))))⟩))))
        · exact br_f (by decide) (br_f (by decide) (br_f (by decide) (br_f (by decide) (br_f (by decide) (br_t rfl ⟨v, y_out_t (L := 24) hs (by decide) (br_t rfl (y_out_t (L := 6) hj (by decide) (br_t rfl (br_f (by decide) ⟨v, br_f z (br_f (by decide) (br_f (by decide) (br_f (by decide) (br_f (by decide) ⟨v, rfl, zz_in q⟩))))⟩))))⟩)))))
    · by_cases z : v2 < 0
      · exact br_t z (y_out_t (L := 24) hs (by decide) (br_t rfl (y_out_f (L := 6) hx (br_f (by decide) ⟨rfl, zz_in q⟩))))
      · exact br_f z (br_t (lit_gt (n := 5) (by decide) (hx.elim (fun w => absurd w z) id)) (y_out_t (L := 24) hs (by decide) (br_t rfl (y_out_f (L := 6) hx (br_f (by decide) ⟨rfl, zz_in q⟩)))))
  · exact x_isSlot_f hx (br_t rfl (y_out_f (L := 24) hx (br_f (by decide) ⟨rfl, zz_in q⟩)))
end
end
section
/-! up, down, forget, abandon, handoff -/
section
variable {N R K : Nat} {xlt xls xlc : Int64} {xrq xwq xpc : Int32} {xal xrg xkw xac xlv xrs xrk xry xro xra xrn xan xmk xmf xmt xmy xmg xmc xpn ybi ywn ywm ywv yal ymf ymt ymy ymg yme yph ypn : Nat → Int32} {xlp xst xhi xcx xaw xms : Nat → Int64}
variable {ex : Nat} {C : Nat → Nat} {D : Nat → Nat → Nat}
variable {k : Nat}
theorem m_up (q : QR 4 N R K C D xls xlc xal xrg xkw xac xlv xlp xst xhi xcx xrs xry xro xan xaw xmk xmf xmt xmy xmg xmc xms ybi ywn ywm ywv yal ymf ymt ymy ymg) (v1 : Int32) : wpX_up (fun r u' => wpY_up (fun r' v' => r' = r ∧ i_Rel k u' v') (nI K, nI N, nI R, xrq, xwq, ybi, xkw, ywn, ywm, ywv, yal, xrs, xrk, xry, xro, xra, xrn, xan, xmk, ymf, ymt, ymy, ymg, xmc, yme, yph, ypn) v1) (xlt, nI N, nI R, xrq, xwq, xpc, xls, xlc, nI K, xal, xrg, xkw, xac, xlv, xlp, xst, xhi, xcx, xrs, xrk, xry, xro, xra, xrn, xan, xaw, xmk, xmf, xmt, xmy, xmg, xmc, xms, xpn) v1 := by
  have h6 := q.1.2.1
  unfold wpX_up wpY_up
  dsimp only
  rcases rng v1 (n := N) (by omega) with ⟨j, hj, rfl⟩ | hx
  · rw [nI_clamp (n := j) (by omega)]
    have v : vp_in (nI j) 6 := vp_in_nI (by omega) (by decide)
    have e := q.2.1 j hj
    refine x_isNode_t h6 hj (br_f (by decide) ⟨v, ?_⟩)
    by_cases z : xal j = 0
    · exact br_t z ⟨v, nm_e (y_out_t hj (by omega) (br_t rfl ⟨v, br_t (e.symm.trans z) ⟨v, nm_e ⟨rfl, zz_in (q_al q)⟩⟩⟩))⟩
    · exact br_f z (y_out_t hj (by omega) (br_t rfl ⟨v, br_f (fun w => z (e.trans w)) ⟨rfl, zz_in q⟩⟩))
  · exact x_isNode_f hx (br_t rfl (y_out_f hx (br_f (by decide) ⟨rfl, zz_in q⟩)))
theorem m_forget (q : QR 4 N R K C D xls xlc xal xrg xkw xac xlv xlp xst xhi xcx xrs xry xro xan xaw xmk xmf xmt xmy xmg xmc xms ybi ywn ywm ywv yal ymf ymt ymy ymg) (v1 v2 : Int32) : wpX_forget (fun r u' => wpY_forget (fun r' v' => r' = r ∧ i_Rel k u' v') (nI K, nI N, nI R, xrq, xwq, ybi, xkw, ywn, ywm, ywv, yal, xrs, xrk, xry, xro, xra, xrn, xan, xmk, ymf, ymt, ymy, ymg, xmc, yme, yph, ypn) v1 v2) (xlt, nI N, nI R, xrq, xwq, xpc, xls, xlc, nI K, xal, xrg, xkw, xac, xlv, xlp, xst, xhi, xcx, xrs, xrk, xry, xro, xra, xrn, xan, xaw, xmk, xmf, xmt, xmy, xmg, xmc, xms, xpn) v1 v2 := by
  unfold wpX_forget wpY_forget
  dsimp only
  rcases rng v1 (n := 4) (by decide) with ⟨c, hc, rfl⟩ | hx
  · rcases rng v2 (n := 4) (by decide) with ⟨y, hy, rfl⟩ | hx
    · have e2 : 168 + nI c * 4 + nI y = nI (168 + c * 4 + y) := ix_a4 168 c y
      rw [ix_4, e2, nI_clamp (n := c * 4 + y) (by omega)]
      refine x_isClient_t hc (br_f (by decide) (x_isKey_t hy (br_f (by decide) ⟨vp_in_nI (by omega) (by decide), nm_e ?_⟩)))
      exact y_out_t (L := 4) hc (by decide) (br_t rfl (y_out_t (L := 4) hy (by decide) (br_t rfl (y_copy (q := 234) (by omega) (by omega) (q_01 q) ⟨rfl, zz_in (q_cset q hc hy (q_em q))⟩))))
    · exact x_isClient_t hc (br_f (by decide) (x_isKey_f hx (br_t rfl (y_out_t (L := 4) hc (by decide) (br_t rfl (y_out_f (L := 4) hx (br_f (by decide) ⟨rfl, zz_in q⟩)))))))
  · exact x_isClient_f hx (br_t rfl (y_out_f (L := 4) hx (br_f (by decide) ⟨rfl, zz_in q⟩)))
theorem m_abandon (q : QR 4 N R K C D xls xlc xal xrg xkw xac xlv xlp xst xhi xcx xrs xry xro xan xaw xmk xmf xmt xmy xmg xmc xms ybi ywn ywm ywv yal ymf ymt ymy ymg) (v1 : Int32) : wpX_abandon (fun r u' => wpY_abandon (fun r' v' => r' = r ∧ i_Rel k u' v') (nI K, nI N, nI R, xrq, xwq, ybi, xkw, ywn, ywm, ywv, yal, xrs, xrk, xry, xro, xra, xrn, xan, xmk, ymf, ymt, ymy, ymg, xmc, yme, yph, ypn) v1) (xlt, nI N, nI R, xrq, xwq, xpc, xls, xlc, nI K, xal, xrg, xkw, xac, xlv, xlp, xst, xhi, xcx, xrs, xrk, xry, xro, xra, xrn, xan, xaw, xmk, xmf, xmt, xmy, xmg, xmc, xms, xpn) v1 := by
  unfold wpX_abandon wpY_abandon
  dsimp only
  rcases rng v1 (n := 4) (by decide) with ⟨c, hc, rfl⟩ | hx
  · rw [nI_clamp (n := c) (by omega)]
    have v : vp_in (nI c) 4 := vp_in_nI hc (by decide)
    refine x_isClient_t hc (br_f (by decide) ⟨v, ?_⟩)
    by_cases z : xrs c = 1
    · obtain ⟨xst', xms', xcx', xaw', xrs', xan', xmk', xmf', xmt', xmy', xmg', xmc', ybi', ymf', ymt', ymy', ymg', hQ, hX, hY⟩ := k_close (q := 4) q hc (by decide) z
      exact br_t z (hX _ (y_out_t (L := 4) hc (by decide) (br_t rfl ⟨v, br_t z (hY _ _ _ _ ⟨rfl, zz_in hQ⟩)⟩)))
    · exact br_f z (y_out_t (L := 4) hc (by decide) (br_t rfl ⟨v, br_f z ⟨rfl, zz_in q⟩⟩))
  · exact x_isClient_f hx (br_t rfl (y_out_f (L := 4) hx (br_f (by decide) ⟨rfl, zz_in q⟩)))
theorem k_down {o : Nat} : ∀ d c (xst xms xcx xaw : Nat → Int64) (xrs xan xmk xmf xmt xmy xmg xmc ybi ymf ymt ymy ymg : Nat → Int32), c + d = 4 → QR 4 N R K C D xls xlc xal xrg xkw xac xlv xlp xst xhi xcx xrs xry xro xan xaw xmk xmf xmt xmy xmg xmc xms ybi ywn ywm ywv yal ymf ymt ymy ymg → ∃ (xst' xms' xcx' xaw' : Nat → Int64) (xrs' xan' xmk' xmf' xmt' xmy' xmg' xmc' ybi' ymf' ymt' ymy' ymg' : Nat → Int32), QR 4 N R K C D xls xlc xal xrg xkw xac xlv xlp xst' xhi xcx' xrs' xry xro xan' xaw' xmk' xmf' xmt' xmy' xmg' xmc' xms' ybi' ywn ywm ywv yal ymf' ymt' ymy' ymg' ∧ (∀ post : Int32 → SX → Prop, post 1 (xlt, nI N, nI R, xrq, xwq, xpc, xls, xlc, nI K, xal, xrg, xkw, xac, xlv, xlp, xst', xhi, xcx', xrs', xrk, xry, xro, xra, xrn, xan', xaw', xmk', xmf', xmt', xmy', xmg', xmc', xms', xpn) → wX_down_31 post (nI o) (d + 1) (nI c) xlt (nI N) (nI R) xrq xwq xpc xls xlc (nI K) xal xrg xkw xac xlv xlp xst xhi xcx xrs xrk xry xro xra xrn xan xaw xmk xmf xmt xmy xmg xmc xms xpn) ∧ (∀ post : Int32 → SY → Prop, post 1 (nI K, nI N, nI R, xrq, xwq, ybi', xkw, ywn, ywm, ywv, yal, xrs', xrk, xry, xro, xra, xrn, xan', xmk', ymf', ymt', ymy', ymg', xmc', yme, yph, ypn) → wY_down_35 post (nI o) (d + 1) (nI c) (nI K) (nI N) (nI R) xrq xwq ybi xkw ywn ywm ywv yal xrs xrk xry xro xra xrn xan xmk ymf ymt ymy ymg xmc yme yph ypn) := by
  intro d
  induction d with
  | zero =>
    intro c xst xms xcx xaw xrs xan xmk xmf xmt xmy xmg xmc ybi ymf ymt ymy ymg e h
    have e6 : c = 4 := by omega
    subst e6
    exact ⟨xst, xms, xcx, xaw, xrs, xan, xmk, xmf, xmt, xmy, xmg, xmc, ybi, ymf, ymt, ymy, ymg, h, fun post hp => br_t (nI_le (Nat.le_refl 4) (by decide)) hp, fun post hp => br_t (nI_le (Nat.le_refl 4) (by decide)) hp⟩
  | succ d ih =>
    intro c xst xms xcx xaw xrs xan xmk xmf xmt xmy xmg xmc ybi ymf ymt ymy ymg e h
    have v : vp_in (nI c) 4 := vp_in_nI (by omega) (by decide)
    by_cases z : xrs c = 1
    · by_cases z2 : xro c = nI o
      · obtain ⟨b1, b2, b3, b4, b5, b6, b7, b8, b9, b10, b11, b12, b13, b14, b15, b16, b17, hQ1, hX1, hY1⟩ := k_close (q := 3) (xlt := xlt) (xrq := xrq) (xwq := xwq) (xpc := xpc) (xrk := xrk) (xra := xra) (xrn := xrn) (xpn := xpn) h (by omega) (by decide) z
        obtain ⟨xst', xms', xcx', xaw', xrs', xan', xmk', xmf', xmt', xmy', xmg', xmc', ybi', ymf', ymt', ymy', ymg', hQ, hX, hY⟩ := ih (c + 1) b1 b2 b3 b4 b5 b6 b7 b8 b9 b10 b11 b12 b13 b14 b15 b16 b17 (by omega) hQ1
        refine ⟨xst', xms', xcx', xaw', xrs', xan', xmk', xmf', xmt', xmy', xmg', xmc', ybi', ymf', ymt', ymy', ymg', hQ, fun post hp => ?_, fun post hp => ?_⟩
        · rw [wX_down_31]
          dsimp only
          rw [nI_clamp (n := c) (by omega)]
          exact br_f (nI_ge (b := 4) (by omega) (by decide)) ⟨v, br_t z ⟨v, br_t z2 (hX1 _ (nm_r (nI_1 c) (hX post hp)))⟩⟩
        · rw [wY_down_35]
          dsimp only
          rw [nI_clamp (n := c) (by omega)]
          exact br_f (nI_ge (b := 4) (by omega) (by decide)) ⟨v, br_t z ⟨v, br_t z2 (hY1 _ _ _ _ (nm_r (nI_1 c) (hY post hp)))⟩⟩
      · obtain ⟨xst', xms', xcx', xaw', xrs', xan', xmk', xmf', xmt', xmy', xmg', xmc', ybi', ymf', ymt', ymy', ymg', hQ, hX, hY⟩ := ih (c + 1) xst xms xcx xaw xrs xan xmk xmf xmt xmy xmg xmc ybi ymf ymt ymy ymg (by omega) h
        refine ⟨xst', xms', xcx', xaw', xrs', xan', xmk', xmf', xmt', xmy', xmg', xmc', ybi', ymf', ymt', ymy', ymg', hQ, fun post hp => ?_, fun post hp => ?_⟩
        · rw [wX_down_31]
          dsimp only
          rw [nI_clamp (n := c) (by omega)]
          exact br_f (nI_ge (b := 4) (by omega) (by decide)) ⟨v, br_t z ⟨v, br_f z2 (nm_r (nI_1 c) (hX post hp))⟩⟩
        · rw [wY_down_35]
          dsimp only
          rw [nI_clamp (n := c) (by omega)]
          exact br_f (nI_ge (b := 4) (by omega) (by decide)) ⟨v, br_t z ⟨v, br_f z2 (nm_r (nI_1 c) (hY post hp))⟩⟩
    · obtain ⟨xst', xms', xcx', xaw', xrs', xan', xmk', xmf', xmt', xmy', xmg', xmc', ybi', ymf', ymt', ymy', ymg', hQ, hX, hY⟩ := ih (c + 1) xst xms xcx xaw xrs xan xmk xmf xmt xmy xmg xmc ybi ymf ymt ymy ymg (by omega) h
      refine ⟨xst', xms', xcx', xaw', xrs', xan', xmk', xmf', xmt', xmy', xmg', xmc', ybi', ymf', ymt', ymy', ymg', hQ, fun post hp => ?_, fun post hp => ?_⟩
      · rw [wX_down_31]
        dsimp only
        rw [nI_clamp (n := c) (by omega)]
        exact br_f (nI_ge (b := 4) (by omega) (by decide)) ⟨v, br_f z (nm_r (nI_1 c) (hX post hp))⟩
      · rw [wY_down_35]
        dsimp only
        rw [nI_clamp (n := c) (by omega)]
        exact br_f (nI_ge (b := 4) (by omega) (by decide)) ⟨v, br_f z (nm_r (nI_1 c) (hY post hp))⟩
theorem m_down (q : QR 4 N R K C D xls xlc xal xrg xkw xac xlv xlp xst xhi xcx xrs xry xro xan xaw xmk xmf xmt xmy xmg xmc xms ybi ywn ywm ywv yal ymf ymt ymy ymg) (v1 : Int32) : wpX_down (fun r u' => wpY_down (fun r' v' => r' = r ∧ i_Rel k u' v') (nI K, nI N, nI R, xrq, xwq, ybi, xkw, ywn, ywm, ywv, yal, xrs, xrk, xry, xro, xra, xrn, xan, xmk, ymf, ymt, ymy, ymg, xmc, yme, yph, ypn) v1) (xlt, nI N, nI R, xrq, xwq, xpc, xls, xlc, nI K, xal, xrg, xkw, xac, xlv, xlp, xst, xhi, xcx, xrs, xrk, xry, xro, xra, xrn, xan, xaw, xmk, xmf, xmt, xmy, xmg, xmc, xms, xpn) v1 := by
  have h6 := q.1.2.1
  unfold wpX_down wpY_down
  dsimp only
  rcases rng v1 (n := N) (by omega) with ⟨j, hj, rfl⟩ | hx
  · rw [nI_clamp (n := j) (by omega)]
    have v : vp_in (nI j) 6 := vp_in_nI (by omega) (by decide)
    have e := q.2.1 j hj
    refine x_isNode_t h6 hj (br_f (by decide) ⟨v, ?_⟩)
    by_cases z : xal j = 0
    · exact br_t z (y_out_t hj (by omega) (br_t rfl ⟨v, br_t (e.symm.trans z) ⟨rfl, zz_in q⟩⟩))
    · obtain ⟨xst', xms', xcx', xaw', xrs', xan', xmk', xmf', xmt', xmy', xmg', xmc', ybi', ymf', ymt', ymy', ymg', hQ, hX, hY⟩ := k_down (o := j) (xlt := xlt) (xrq := xrq) (xwq := xwq) (xpc := xpc) (xrk := xrk) (xra := xra) (xrn := xrn) (xpn := xpn) (yme := yme) (yph := yph) (ypn := ypn) 4 0 xst xms xcx xaw xrs xan xmk xmf xmt xmy xmg xmc ybi ymf ymt ymy ymg rfl (q_al (n := j) (v := 0) q)
      rw [nI_0] at hX hY
      rw [nb_0]
      exact br_f z ⟨v, nm_e ⟨_, hX _ (y_out_t hj (by omega) (br_t rfl ⟨v, br_f (fun w => z (e.trans w)) ⟨v, nm_e ⟨_, hY _ ⟨rfl, zz_in hQ⟩⟩⟩⟩))⟩⟩
  · exact x_isNode_f hx (br_t rfl (y_out_f hx (br_f (by decide) ⟨rfl, zz_in q⟩)))
theorem y_41d {post : Int32 → SY → Prop} {J : Int32 → Int32 → Int32 → Int32 → Int32 → Int32 → Int32 → (Nat → Int32) → (Nat → Int32) → (Nat → Int32) → (Nat → Int32) → (Nat → Int32) → (Nat → Int32) → (Nat → Int32) → (Nat → Int32) → (Nat → Int32) → (Nat → Int32) → (Nat → Int32) → (Nat → Int32) → (Nat → Int32) → (Nat → Int32) → (Nat → Int32) → (Nat → Int32) → (Nat → Int32) → (Nat → Int32) → (Nat → Int32) → (Nat → Int32) → (Nat → Int32) → (Nat → Int32) → Prop} {a t : Nat} {x2 : Int32} (ht : t < 6) (hz : yal t = 0) (h : J x2 (nI (t + 1)) (nI K) (nI N) (nI R) xrq xwq ybi xkw ywn ywm ywv yal xrs xrk xry xro xra xrn xan xmk ymf ymt ymy ymg xmc yme yph ypn) : ∀ d y m, y + d = 4 → wY_handoff_41 post J (nI a) (nI t) (m + d + 1) x2 (nI y) (nI K) (nI N) (nI R) xrq xwq ybi xkw ywn ywm ywv yal xrs xrk xry xro xra xrn xan xmk ymf ymt ymy ymg xmc yme yph ypn := by
  intro d
  induction d with
  | zero =>
    intro y m e
    have e6 : y = 4 := by omega
    subst e6
    exact br_t (nI_le (Nat.le_refl 4) (by decide)) (nm_r (nI_1 t) h)
  | succ d ih =>
    intro y m e
    rw [wY_handoff_41]
    dsimp only
    rw [nI_clamp (n := t) (by omega)]
    exact br_f (nI_ge (b := 4) (by omega) (by decide)) (y_hrow ⟨vp_in_nI ht (by decide), br_t hz (nm_r (nI_1 y) (ih (y + 1) m (by omega)))⟩)
theorem k_49 {a t : Nat} (ha : a < N) (ht : t < N) (hal : ¬ yal t = 0) : ∀ d y x2 (xst xms : Nat → Int64) (xmk xmf xmt xmy xmg xmc ybi ymf ymt ymy ymg : Nat → Int32), y + d = 4 → QR 4 N R K C D xls xlc xal xrg xkw xac xlv xlp xst xhi xcx xrs xry xro xan xaw xmk xmf xmt xmy xmg xmc xms ybi ywn ywm ywv yal ymf ymt ymy ymg → (∃ (x2' : Int32) (xst' xms' : Nat → Int64) (xmk' xmf' xmt' xmy' xmg' xmc' ybi' ymf' ymt' ymy' ymg' : Nat → Int32), QR 4 N R K C D xls xlc xal xrg xkw xac xlv xlp xst' xhi xcx xrs xry xro xan xaw xmk' xmf' xmt' xmy' xmg' xmc' xms' ybi' ywn ywm ywv yal ymf' ymt' ymy' ymg' ∧ (∀ (post : Int32 → SX → Prop) (J : Int32 → Int32 → Int64 → Int32 → Int32 → Int32 → Int32 → Int32 → Int64 → Int64 → Int32 → (Nat → Int32) → (Nat → Int32) → (Nat → Int32) → (Nat → Int32) → (Nat → Int32) → (Nat → Int64) → (Nat → Int64) → (Nat → Int64) → (Nat → Int64) → (Nat → Int32) → (Nat → Int32) → (Nat → Int32) → (Nat → Int32) → (Nat → Int32) → (Nat → Int32) → (Nat → Int32) → (Nat → Int64) → (Nat → Int32) → (Nat → Int32) → (Nat → Int32) → (Nat → Int32) → (Nat → Int32) → (Nat → Int32) → (Nat → Int64) → (Nat → Int32) → Prop), J x2' (nI (t + 1)) xlt (nI N) (nI R) xrq xwq xpc xls xlc (nI K) xal xrg xkw xac xlv xlp xst' xhi xcx xrs xrk xry xro xra xrn xan xaw xmk' xmf' xmt' xmy' xmg' xmc' xms' xpn → wX_handoff_49 post J (nI a) (nI t) (d + 1) x2 (nI y) xlt (nI N) (nI R) xrq xwq xpc xls xlc (nI K) xal xrg xkw xac xlv xlp xst xhi xcx xrs xrk xry xro xra xrn xan xaw xmk xmf xmt xmy xmg xmc xms xpn) ∧ (∀ (post : Int32 → SY → Prop) (J : Int32 → Int32 → Int32 → Int32 → Int32 → Int32 → Int32 → (Nat → Int32) → (Nat → Int32) → (Nat → Int32) → (Nat → Int32) → (Nat → Int32) → (Nat → Int32) → (Nat → Int32) → (Nat → Int32) → (Nat → Int32) → (Nat → Int32) → (Nat → Int32) → (Nat → Int32) → (Nat → Int32) → (Nat → Int32) → (Nat → Int32) → (Nat → Int32) → (Nat → Int32) → (Nat → Int32) → (Nat → Int32) → (Nat → Int32) → (Nat → Int32) → (Nat → Int32) → Prop), J x2' (nI (t + 1)) (nI K) (nI N) (nI R) xrq xwq ybi' xkw ywn ywm ywv yal xrs xrk xry xro xra xrn xan xmk' ymf' ymt' ymy' ymg' xmc' yme yph ypn → wY_handoff_41 post J (nI a) (nI t) (d + 1) x2 (nI y) (nI K) (nI N) (nI R) xrq xwq ybi xkw ywn ywm ywv yal xrs xrk xry xro xra xrn xan xmk ymf ymt ymy ymg xmc yme yph ypn)) ∨ (∃ (r : Int32) (xst' xms' : Nat → Int64) (xmk' xmf' xmt' xmy' xmg' xmc' ybi' ymf' ymt' ymy' ymg' : Nat → Int32), QR 4 N R K C D xls xlc xal xrg xkw xac xlv xlp xst' xhi xcx xrs xry xro xan xaw xmk' xmf' xmt' xmy' xmg' xmc' xms' ybi' ywn ywm ywv yal ymf' ymt' ymy' ymg' ∧ (∀ (post : Int32 → SX → Prop) (J : Int32 → Int32 → Int64 → Int32 → Int32 → Int32 → Int32 → Int32 → Int64 → Int64 → Int32 → (Nat → Int32) → (Nat → Int32) → (Nat → Int32) → (Nat → Int32) → (Nat → Int32) → (Nat → Int64) → (Nat → Int64) → (Nat → Int64) → (Nat → Int64) → (Nat → Int32) → (Nat → Int32) → (Nat → Int32) → (Nat → Int32) → (Nat → Int32) → (Nat → Int32) → (Nat → Int32) → (Nat → Int64) → (Nat → Int32) → (Nat → Int32) → (Nat → Int32) → (Nat → Int32) → (Nat → Int32) → (Nat → Int32) → (Nat → Int64) → (Nat → Int32) → Prop), post r (xlt, nI N, nI R, xrq, xwq, xpc, xls, xlc, nI K, xal, xrg, xkw, xac, xlv, xlp, xst', xhi, xcx, xrs, xrk, xry, xro, xra, xrn, xan, xaw, xmk', xmf', xmt', xmy', xmg', xmc', xms', xpn) → wX_handoff_49 post J (nI a) (nI t) (d + 1) x2 (nI y) xlt (nI N) (nI R) xrq xwq xpc xls xlc (nI K) xal xrg xkw xac xlv xlp xst xhi xcx xrs xrk xry xro xra xrn xan xaw xmk xmf xmt xmy xmg xmc xms xpn) ∧ (∀ (post : Int32 → SY → Prop) (J : Int32 → Int32 → Int32 → Int32 → Int32 → Int32 → Int32 → (Nat → Int32) → (Nat → Int32) → (Nat → Int32) → (Nat → Int32) → (Nat → Int32) → (Nat → Int32) → (Nat → Int32) → (Nat → Int32) → (Nat → Int32) → (Nat → Int32) → (Nat → Int32) → (Nat → Int32) → (Nat → Int32) → (Nat → Int32) → (Nat → Int32) → (Nat → Int32) → (Nat → Int32) → (Nat → Int32) → (Nat → Int32) → (Nat → Int32) → (Nat → Int32) → (Nat → Int32) → Prop), post r (nI K, nI N, nI R, xrq, xwq, ybi', xkw, ywn, ywm, ywv, yal, xrs, xrk, xry, xro, xra, xrn, xan, xmk', ymf', ymt', ymy', ymg', xmc', yme, yph, ypn) → wY_handoff_41 post J (nI a) (nI t) (d + 1) x2 (nI y) (nI K) (nI N) (nI R) xrq xwq ybi xkw ywn ywm ywv yal xrs xrk xry xro xra xrn xan xmk ymf ymt ymy ymg xmc yme yph ypn)) := by
  intro d
  induction d with
  | zero =>
    intro y x2 xst xms xmk xmf xmt xmy xmg xmc ybi ymf ymt ymy ymg e h
    have e6 : y = 4 := by omega
    subst e6
    exact Or.inl ⟨x2, xst, xms, xmk, xmf, xmt, xmy, xmg, xmc, ybi, ymf, ymt, ymy, ymg, h, fun post J hp => br_t (nI_le (Nat.le_refl 4) (by decide)) (nm_r (nI_1 t) hp), fun post J hp => br_t (nI_le (Nat.le_refl 4) (by decide)) (nm_r (nI_1 t) hp)⟩
  | succ d ih =>
    intro y x2 xst xms xmk xmf xmt xmy xmg xmc ybi ymf ymt ymy ymg e h
    have h6 := h.1.2.1
    have hy : y < 4 := by omega
    have v1 : vp_in (nI ((a * 6 + t) * 4 + y)) 144 := vp_in_nI (by omega) (by decide)
    have v2 : vp_in (nI (a * 4 + y)) 24 := vp_in_nI (by omega) (by decide)
    have v3 : vp_in (nI t) 6 := vp_in_nI (by omega) (by decide)
    have hh := q_hi h hy (a := a) (t := t) (by omega) (by omega)
    have hs := q_st h hy (t := a) (by omega)
    have hz := rs_z hh (q_cx h hy)
    have he : ∀ i, i < 40 → ybi (234 * 40 + i) = 0 := h.2.2.2.2.1.2
    by_cases z : xhi ((a * 6 + t) * 4 + y) = 0
    · have z' := hz.mp z
      have skX : ∀ (post : Int32 → SX → Prop) (J : Int32 → Int32 → Int64 → Int32 → Int32 → Int32 → Int32 → Int32 → Int64 → Int64 → Int32 → (Nat → Int32) → (Nat → Int32) → (Nat → Int32) → (Nat → Int32) → (Nat → Int32) → (Nat → Int64) → (Nat → Int64) → (Nat → Int64) → (Nat → Int64) → (Nat → Int32) → (Nat → Int32) → (Nat → Int32) → (Nat → Int32) → (Nat → Int32) → (Nat → Int32) → (Nat → Int32) → (Nat → Int64) → (Nat → Int32) → (Nat → Int32) → (Nat → Int32) → (Nat → Int32) → (Nat → Int32) → (Nat → Int32) → (Nat → Int64) → (Nat → Int32) → Prop), wX_handoff_49 post J (nI a) (nI t) (d + 1) x2 (nI (y + 1)) xlt (nI N) (nI R) xrq xwq xpc xls xlc (nI K) xal xrg xkw xac xlv xlp xst xhi xcx xrs xrk xry xro xra xrn xan xaw xmk xmf xmt xmy xmg xmc xms xpn → wX_handoff_49 post J (nI a) (nI t) (d + 1 + 1) x2 (nI y) xlt (nI N) (nI R) xrq xwq xpc xls xlc (nI K) xal xrg xkw xac xlv xlp xst xhi xcx xrs xrk xry xro xra xrn xan xaw xmk xmf xmt xmy xmg xmc xms xpn := by
        intro post J w
        rw [wX_handoff_49]
        unfold wpX_hintAt
        dsimp only
        rw [ix_h, nI_clamp (n := (a * 6 + t) * 4 + y) (by omega)]
        exact br_f (nI_ge (b := 4) (by omega) (by decide)) ⟨v1, br_t z (nm_r (nI_1 y) w)⟩
      have skY : ∀ (post : Int32 → SY → Prop) (J : Int32 → Int32 → Int32 → Int32 → Int32 → Int32 → Int32 → (Nat → Int32) → (Nat → Int32) → (Nat → Int32) → (Nat → Int32) → (Nat → Int32) → (Nat → Int32) → (Nat → Int32) → (Nat → Int32) → (Nat → Int32) → (Nat → Int32) → (Nat → Int32) → (Nat → Int32) → (Nat → Int32) → (Nat → Int32) → (Nat → Int32) → (Nat → Int32) → (Nat → Int32) → (Nat → Int32) → (Nat → Int32) → (Nat → Int32) → (Nat → Int32) → (Nat → Int32) → Prop), wY_handoff_41 post J (nI a) (nI t) (d + 1) x2 (nI (y + 1)) (nI K) (nI N) (nI R) xrq xwq ybi xkw ywn ywm ywv yal xrs xrk xry xro xra xrn xan xmk ymf ymt ymy ymg xmc yme yph ypn → wY_handoff_41 post J (nI a) (nI t) (d + 1 + 1) x2 (nI y) (nI K) (nI N) (nI R) xrq xwq ybi xkw ywn ywm ywv yal xrs xrk xry xro xra xrn xan xmk ymf ymt ymy ymg xmc yme yph ypn := by
        intro post J w
        rw [wY_handoff_41]
        dsimp only
        rw [nI_clamp (n := t) (by omega)]
        exact br_f (nI_ge (b := 4) (by omega) (by decide)) (y_hrow ⟨v3, br_f hal (y_sub (r := 234) (by omega) (by omega) (fun _ => br_f (by decide) (nm_r (nI_1 y) w)) (fun u => absurd (fun i hi v => absurd v (z' i hi)) u))⟩)
      rcases ih (y + 1) x2 xst xms xmk xmf xmt xmy xmg xmc ybi ymf ymt ymy ymg (by omega) h with ⟨x2', xst', xms', xmk', xmf', xmt', xmy', xmg', xmc', ybi', ymf', ymt', ymy', ymg', hQ, hX, hY⟩ | ⟨r, xst', xms', xmk', xmf', xmt', xmy', xmg', xmc', ybi', ymf', ymt', ymy', ymg', hQ, hX, hY⟩
      · exact Or.inl ⟨x2', xst', xms', xmk', xmf', xmt', xmy', xmg', xmc', ybi', ymf', ymt', ymy', ymg', hQ, fun post J hp => skX post J (hX post J hp), fun post J hp => skY post J (hY post J hp)⟩
      · exact Or.inr ⟨r, xst', xms', xmk', xmf', xmt', xmy', xmg', xmc', ybi', ymf', ymt', ymy', ymg', hQ, fun post J hp => skX post J (hX post J hp), fun post J hp => skY post J (hY post J hp)⟩
    · have ns : ¬ ∀ i, i < 40 → ¬ ybi ((24 + (a * 6 + t) * 4 + y) * 40 + i) = 0 → ¬ ybi (234 * 40 + i) = 0 := fun w => z (hz.mpr (fun i hi v => w i hi v (he i hi)))
      rcases fr_or xmk with ⟨s, s1, s2, s3⟩ | s3
      · have hq := q_put (s := s) (kk := 8) (ff := a) (tt := t) (yy := y) (r := a * 4 + y) (g := -1) (c := -1) (S := xst (a * 4 + y)) h s1 (by omega) (by omega) ha ht hy (by omega) (Or.inl rfl) hs
        have skX : ∀ (post : Int32 → SX → Prop) (J : Int32 → Int32 → Int64 → Int32 → Int32 → Int32 → Int32 → Int32 → Int64 → Int64 → Int32 → (Nat → Int32) → (Nat → Int32) → (Nat → Int32) → (Nat → Int32) → (Nat → Int32) → (Nat → Int64) → (Nat → Int64) → (Nat → Int64) → (Nat → Int64) → (Nat → Int32) → (Nat → Int32) → (Nat → Int32) → (Nat → Int32) → (Nat → Int32) → (Nat → Int32) → (Nat → Int32) → (Nat → Int64) → (Nat → Int32) → (Nat → Int32) → (Nat → Int32) → (Nat → Int32) → (Nat → Int32) → (Nat → Int32) → (Nat → Int64) → (Nat → Int32) → Prop), wX_handoff_49 post J (nI a) (nI t) (d + 1) (x2 + 1) (nI (y + 1)) xlt (nI N) (nI R) xrq xwq xpc xls xlc (nI K) xal xrg xkw xac xlv xlp xst xhi xcx xrs xrk xry xro xra xrn xan xaw (upd xmk s (nI 8)) (upd xmf s (nI a)) (upd xmt s (nI t)) (upd xmy s (nI y)) (upd xmg s ((-1))) (upd xmc s ((-1))) (vp_updL xms s (xst (a * 4 + y))) xpn → wX_handoff_49 post J (nI a) (nI t) (d + 1 + 1) x2 (nI y) xlt (nI N) (nI R) xrq xwq xpc xls xlc (nI K) xal xrg xkw xac xlv xlp xst xhi xcx xrs xrk xry xro xra xrn xan xaw xmk xmf xmt xmy xmg xmc xms xpn := by
          intro post J w
          rw [wX_handoff_49]
          unfold wpX_hintAt
          dsimp only
          rw [ix_h, ix_4, nI_clamp (n := (a * 6 + t) * 4 + y) (by omega), nI_clamp (n := a * 4 + y) (by omega)]
          exact br_f (nI_ge (b := 4) (by omega) (by decide)) ⟨v1, br_f z ⟨v2, x_send_t s1 s2 s3 (br_f (by decide) (nm_e (nm_r (nI_1 y) w)))⟩⟩
        have skY : ∀ (post : Int32 → SY → Prop) (J : Int32 → Int32 → Int32 → Int32 → Int32 → Int32 → Int32 → (Nat → Int32) → (Nat → Int32) → (Nat → Int32) → (Nat → Int32) → (Nat → Int32) → (Nat → Int32) → (Nat → Int32) → (Nat → Int32) → (Nat → Int32) → (Nat → Int32) → (Nat → Int32) → (Nat → Int32) → (Nat → Int32) → (Nat → Int32) → (Nat → Int32) → (Nat → Int32) → (Nat → Int32) → (Nat → Int32) → (Nat → Int32) → (Nat → Int32) → (Nat → Int32) → (Nat → Int32) → Prop), wY_handoff_41 post J (nI a) (nI t) (d + 1) (x2 + 1) (nI (y + 1)) (nI K) (nI N) (nI R) xrq xwq (cp_ ybi ((a * 4 + y)) (184 + s)) xkw ywn ywm ywv yal xrs xrk xry xro xra xrn xan (upd xmk s (nI 8)) (upd ymf s (nI a)) (upd ymt s (nI t)) (upd ymy s (nI y)) (upd ymg s ((-1))) (upd xmc s ((-1))) yme yph ypn → wY_handoff_41 post J (nI a) (nI t) (d + 1 + 1) x2 (nI y) (nI K) (nI N) (nI R) xrq xwq ybi xkw ywn ywm ywv yal xrs xrk xry xro xra xrn xan xmk ymf ymt ymy ymg xmc yme yph ypn := by
          intro post J w
          rw [wY_handoff_41]
          dsimp only
          rw [ix_4, nI_clamp (n := t) (by omega)]
          exact br_f (nI_ge (b := 4) (by omega) (by decide)) (y_hrow ⟨v3, br_f hal (y_sub (r := 234) (by omega) (by omega) (fun u => absurd u ns) (fun _ => br_t rfl (y_send_t (by omega) (q_01 h) s1 s2 s3 (br_f (by decide) (nm_e (nm_r (nI_1 y) w))))))⟩)
        rcases ih (y + 1) (x2 + 1) _ _ _ _ _ _ _ _ _ _ _ _ _ (by omega) hq with ⟨x2', xst', xms', xmk', xmf', xmt', xmy', xmg', xmc', ybi', ymf', ymt', ymy', ymg', hQ, hX, hY⟩ | ⟨r, xst', xms', xmk', xmf', xmt', xmy', xmg', xmc', ybi', ymf', ymt', ymy', ymg', hQ, hX, hY⟩
        · exact Or.inl ⟨x2', xst', xms', xmk', xmf', xmt', xmy', xmg', xmc', ybi', ymf', ymt', ymy', ymg', hQ, fun post J hp => skX post J (hX post J hp), fun post J hp => skY post J (hY post J hp)⟩
        · exact Or.inr ⟨r, xst', xms', xmk', xmf', xmt', xmy', xmg', xmc', ybi', ymf', ymt', ymy', ymg', hQ, fun post J hp => skX post J (hX post J hp), fun post J hp => skY post J (hY post J hp)⟩
      · refine Or.inr ⟨x2, xst, xms, xmk, xmf, xmt, xmy, xmg, xmc, ybi, ymf, ymt, ymy, ymg, h, fun post J hp => ?_, fun post J hp => ?_⟩
        · rw [wX_handoff_49]
          unfold wpX_hintAt
          dsimp only
          rw [ix_h, ix_4, nI_clamp (n := (a * 6 + t) * 4 + y) (by omega), nI_clamp (n := a * 4 + y) (by omega)]
          exact br_f (nI_ge (b := 4) (by omega) (by decide)) ⟨v1, br_f z ⟨v2, x_send_f s3 (br_t rfl hp)⟩⟩
        · rw [wY_handoff_41]
          dsimp only
          rw [ix_4, nI_clamp (n := t) (by omega)]
          exact br_f (nI_ge (b := 4) (by omega) (by decide)) (y_hrow ⟨v3, br_f hal (y_sub (r := 234) (by omega) (by omega) (fun u => absurd u ns) (fun _ => br_t rfl (y_send_f s3 (br_t rfl hp))))⟩)
theorem k_26 {a : Nat} (ha : a < N) : ∀ d t x2 (xst xms : Nat → Int64) (xmk xmf xmt xmy xmg xmc ybi ymf ymt ymy ymg : Nat → Int32), t + d = N → QR 4 N R K C D xls xlc xal xrg xkw xac xlv xlp xst xhi xcx xrs xry xro xan xaw xmk xmf xmt xmy xmg xmc xms ybi ywn ywm ywv yal ymf ymt ymy ymg → ∃ (r : Int32) (xst' xms' : Nat → Int64) (xmk' xmf' xmt' xmy' xmg' xmc' ybi' ymf' ymt' ymy' ymg' : Nat → Int32), QR 4 N R K C D xls xlc xal xrg xkw xac xlv xlp xst' xhi xcx xrs xry xro xan xaw xmk' xmf' xmt' xmy' xmg' xmc' xms' ybi' ywn ywm ywv yal ymf' ymt' ymy' ymg' ∧ (∀ post : Int32 → SX → Prop, post r (xlt, nI N, nI R, xrq, xwq, xpc, xls, xlc, nI K, xal, xrg, xkw, xac, xlv, xlp, xst', xhi, xcx, xrs, xrk, xry, xro, xra, xrn, xan, xaw, xmk', xmf', xmt', xmy', xmg', xmc', xms', xpn) → wX_handoff_26 post (nI a) (d + 1) x2 (nI t) xlt (nI N) (nI R) xrq xwq xpc xls xlc (nI K) xal xrg xkw xac xlv xlp xst xhi xcx xrs xrk xry xro xra xrn xan xaw xmk xmf xmt xmy xmg xmc xms xpn) ∧ (∀ post : Int32 → SY → Prop, post r (nI K, nI N, nI R, xrq, xwq, ybi', xkw, ywn, ywm, ywv, yal, xrs, xrk, xry, xro, xra, xrn, xan, xmk', ymf', ymt', ymy', ymg', xmc', yme, yph, ypn) → wY_handoff_30 post (nI a) (d + 1) x2 (nI t) (nI K) (nI N) (nI R) xrq xwq ybi xkw ywn ywm ywv yal xrs xrk xry xro xra xrn xan xmk ymf ymt ymy ymg xmc yme yph ypn) := by
  intro d
  induction d with
  | zero =>
    intro t x2 xst xms xmk xmf xmt xmy xmg xmc ybi ymf ymt ymy ymg e h
    have h6 := h.1.2.1
    have e6 : t = N := by omega
    subst e6
    exact ⟨x2, xst, xms, xmk, xmf, xmt, xmy, xmg, xmc, ybi, ymf, ymt, ymy, ymg, h, fun post hp => br_t (nI_le (Nat.le_refl _) (by omega)) hp, fun post hp => br_t (nI_le (Nat.le_refl _) (by omega)) hp⟩
  | succ d ih =>
    intro t x2 xst xms xmk xmf xmt xmy xmg xmc ybi ymf ymt ymy ymg e h
    have h6 := h.1.2.1
    have v : vp_in (nI t) 6 := vp_in_nI (by omega) (by decide)
    have ea := h.2.1 t (by omega)
    by_cases z : xal t = 0
    · obtain ⟨r, xst', xms', xmk', xmf', xmt', xmy', xmg', xmc', ybi', ymf', ymt', ymy', ymg', hQ, hX, hY⟩ := ih (t + 1) x2 xst xms xmk xmf xmt xmy xmg xmc ybi ymf ymt ymy ymg (by omega) h
      refine ⟨r, xst', xms', xmk', xmf', xmt', xmy', xmg', xmc', ybi', ymf', ymt', ymy', ymg', hQ, fun post hp => ?_, fun post hp => ?_⟩
      · rw [wX_handoff_26]
        dsimp only
        rw [nI_clamp (n := t) (by omega)]
        exact br_f (nI_ge (by omega) (by omega)) ⟨v, br_t z (nm_r (nI_1 t) (hX post hp))⟩
      · have w := y_41d (post := post) (J := wY_handoff_30 post (nI a) (d + 1)) (a := a) (t := t) (x2 := x2) (by omega) (ea.symm.trans z) (hY post hp) 4 0 0 rfl
        rw [nI_0] at w
        rw [wY_handoff_30]
        exact br_f (nI_ge (by omega) (by omega)) ⟨_, w⟩
    · rcases k_49 ha (t := t) (by omega) (fun w => z (ea.trans w)) 4 0 x2 xst xms xmk xmf xmt xmy xmg xmc ybi ymf ymt ymy ymg rfl h with ⟨x2', b1, b2, b3, b4, b5, b6, b7, b8, b9, b10, b11, b12, b13, hQ1, hX1, hY1⟩ | ⟨r, xst', xms', xmk', xmf', xmt', xmy', xmg', xmc', ybi', ymf', ymt', ymy', ymg', hQ, hX, hY⟩
      · obtain ⟨r, xst', xms', xmk', xmf', xmt', xmy', xmg', xmc', ybi', ymf', ymt', ymy', ymg', hQ, hX, hY⟩ := ih (t + 1) x2' b1 b2 b3 b4 b5 b6 b7 b8 b9 b10 b11 b12 b13 (by omega) hQ1
        rw [nI_0] at hX1 hY1
        refine ⟨r, xst', xms', xmk', xmf', xmt', xmy', xmg', xmc', ybi', ymf', ymt', ymy', ymg', hQ, fun post hp => ?_, fun post hp => ?_⟩
        · rw [wX_handoff_26]
          dsimp only
          rw [nI_clamp (n := t) (by omega)]
          exact br_f (nI_ge (by omega) (by omega)) ⟨v, br_f z ⟨_, hX1 post _ (hX post hp)⟩⟩
        · rw [wY_handoff_30]
          exact br_f (nI_ge (by omega) (by omega)) ⟨_, hY1 post _ (hY post hp)⟩
      · rw [nI_0] at hX hY
        refine ⟨r, xst', xms', xmk', xmf', xmt', xmy', xmg', xmc', ybi', ymf', ymt', ymy', ymg', hQ, fun post hp => ?_, fun post hp => ?_⟩
        · rw [wX_handoff_26]
          dsimp only
          rw [nI_clamp (n := t) (by omega)]
          exact br_f (nI_ge (by omega) (by omega)) ⟨v, br_f z ⟨_, hX post _ hp⟩⟩
        · rw [wY_handoff_30]
          exact br_f (nI_ge (by omega) (by omega)) ⟨_, hY post _ hp⟩
theorem m_handoff (q : QR 4 N R K C D xls xlc xal xrg xkw xac xlv xlp xst xhi xcx xrs xry xro xan xaw xmk xmf xmt xmy xmg xmc xms ybi ywn ywm ywv yal ymf ymt ymy ymg) (v1 : Int32) : wpX_handoff (fun r u' => wpY_handoff (fun r' v' => r' = r ∧ i_Rel k u' v') (nI K, nI N, nI R, xrq, xwq, ybi, xkw, ywn, ywm, ywv, yal, xrs, xrk, xry, xro, xra, xrn, xan, xmk, ymf, ymt, ymy, ymg, xmc, yme, yph, ypn) v1) (xlt, nI N, nI R, xrq, xwq, xpc, xls, xlc, nI K, xal, xrg, xkw, xac, xlv, xlp, xst, xhi, xcx, xrs, xrk, xry, xro, xra, xrn, xan, xaw, xmk, xmf, xmt, xmy, xmg, xmc, xms, xpn) v1 := by
  have h6 := q.1.2.1
  unfold wpX_handoff wpY_handoff
  dsimp only
  rcases rng v1 (n := N) (by omega) with ⟨j, hj, rfl⟩ | hx
  · rw [nI_clamp (n := j) (by omega)]
    have v : vp_in (nI j) 6 := vp_in_nI (by omega) (by decide)
    have e := q.2.1 j hj
    refine x_isNode_t h6 hj (br_f (by decide) ⟨v, ?_⟩)
    by_cases z : xal j = 0
    · exact br_t z (y_out_t hj (by omega) (br_t rfl ⟨v, br_t (e.symm.trans z) ⟨rfl, zz_in q⟩⟩))
    · obtain ⟨r, xst', xms', xmk', xmf', xmt', xmy', xmg', xmc', ybi', ymf', ymt', ymy', ymg', hQ, hX, hY⟩ := k_26 hj (xlt := xlt) (xrq := xrq) (xwq := xwq) (xpc := xpc) (xrk := xrk) (xra := xra) (xrn := xrn) (xpn := xpn) (yme := yme) (yph := yph) (ypn := ypn) N 0 0 xst xms xmk xmf xmt xmy xmg xmc ybi ymf ymt ymy ymg (by omega) q
      rw [nI_0] at hX hY
      exact br_f z ⟨_, hX _ (y_out_t hj (by omega) (br_t rfl ⟨v, br_f (fun w => z (e.trans w)) ⟨_, hY _ ⟨rfl, zz_in hQ⟩⟩⟩))⟩
  · exact x_isNode_f hx (br_t rfl (y_out_f hx (br_f (by decide) ⟨rfl, zz_in q⟩)))
end
end
section
/-! siblings: the pure count -/
def mn_ (a b : Nat) : Nat := if a ≤ b then a else b
def tq_ (C i : Nat) : Nat := if i ≤ C then i else C
theorem tq_1 {C i : Nat} (h : i < C) : tq_ C i = i ∧ tq_ C (i + 1) = i + 1 := ⟨if_pos (by omega), if_pos (by omega)⟩
theorem tq_2 {C i : Nat} (h : ¬ i < C) : tq_ C (i + 1) = tq_ C i := by
  unfold tq_
  rw [if_neg (by omega)]
  by_cases z : i ≤ C
  · rw [if_pos z]; omega
  · rw [if_neg z]
def sg_ (f : Nat → Nat) : Nat → Nat
  | 0 => 0
  | n + 1 => sg_ f n + f n
theorem sg_cg {f g : Nat → Nat} : ∀ {n : Nat}, (∀ j, j < n → f j = g j) → sg_ f n = sg_ g n
  | 0, _ => rfl
  | n + 1, h => by
    simp only [sg_]
    rw [h n (by omega), sg_cg (fun j hj => h j (by omega))]
theorem sg_one {f g : Nat → Nat} {j0 : Nat} (e : g j0 = f j0 + 1) : ∀ {n : Nat}, j0 < n → (∀ j, j < n → ¬ j = j0 → g j = f j) → sg_ g n = sg_ f n + 1
  | 0, h, _ => by omega
  | n + 1, h, a => by
    simp only [sg_]
    by_cases z : j0 = n
    · rw [← z, e, sg_cg (g := f) (fun j hj => a j (by omega) (by omega))]
      omega
    · rw [a n (by omega) (by omega), sg_one e (by omega) (fun j hj => a j (by omega))]
      omega
theorem sg_0 {f : Nat → Nat} : ∀ {n : Nat}, (∀ j, j < n → f j = 0) → sg_ f n = 0
  | 0, _ => rfl
  | n + 1, h => by
    simp only [sg_]
    rw [h n (by omega), sg_0 (fun j hj => h j (by omega))]
theorem sg_le {f : Nat → Nat} {b : Nat} (h : ∀ j, f j ≤ b) : ∀ n, sg_ f n ≤ n * b
  | 0 => by simp [sg_]
  | n + 1 => by
    have a := sg_le h n
    have c := h n
    simp only [sg_]
    rw [Nat.succ_mul]
    omega
def si_ (b : Nat → Int32) (K i : Nat) : Prop := ¬ b (232 * 40 + i) = 0 ∧ ∀ t, t < 40 → ¬ b (232 * 40 + t) = 0 → b ((235 + K * 40 + t) * 40 + i) = 0
def tm_ (D : Nat → Nat) (a c : Int64) (i n : Nat) : Nat := mn_ (ct_n D n i) (ln_ a n) - ln_ c n
theorem tm_t {D : Nat → Nat} {a c : Int64} {i n : Nat} (h : D i = n) (h1 : ln_ c n ≤ ct_n D n i) (h2 : ct_n D n i < ln_ a n) : tm_ D a c (i + 1) n = tm_ D a c i n + 1 := by
  unfold tm_ mn_
  rw [ct_t h]
  split <;> split <;> omega
theorem tm_f {D : Nat → Nat} {a c : Int64} {i n : Nat} (h : ¬ (D i = n ∧ ln_ c n ≤ ct_n D n i ∧ ct_n D n i < ln_ a n)) : tm_ D a c (i + 1) n = tm_ D a c i n := by
  unfold tm_ mn_
  by_cases z : D i = n
  · rw [ct_t z]
    split <;> split <;> omega
  · rw [ct_f z]
section
variable {K : Nat} {C : Nat → Nat} {D : Nat → Nat → Nat} {b : Nat → Int32} {xls xlc : Int64}
theorem si_iff {i : Nat} (h : rx_ K C D b xls xlc) (hi : i < 40) : si_ b K i ↔ i < C K ∧ ln_ xlc (D K i) ≤ ct_n (D K) (D K i) i ∧ ct_n (D K) (D K i) i < ln_ xls (D K i) := by
  have a := h.2.1.2 i hi
  have c := h.2.2.2 i hi
  constructor
  · rintro ⟨p, q⟩
    have p2 := a.mp p
    refine ⟨p2.1, Nat.le_of_not_lt (fun w => ?_), p2.2⟩
    obtain ⟨t, t1, t2, t3⟩ := c.mpr ⟨p2.1, w⟩
    exact t3 (q t t1 t2)
  · rintro ⟨p1, p2, p3⟩
    refine ⟨a.mpr ⟨p1, p3⟩, fun t t1 t2 => Classical.byContradiction (fun w => ?_)⟩
    have := (c.mp ⟨t, t1, t2, w⟩).2
    omega
theorem tn_t {i n : Nat} (h : rx_ K C D b xls xlc) (hi : i < 40) (hs : si_ b K i) (hn : D K i = n) : tm_ (D K) xls xlc (tq_ (C K) (i + 1)) n = tm_ (D K) xls xlc (tq_ (C K) i) n + 1 := by
  obtain ⟨p1, p2, p3⟩ := (si_iff h hi).mp hs
  rw [(tq_1 p1).1, (tq_1 p1).2]
  rw [hn] at p2 p3
  exact tm_t hn p2 p3
theorem tn_f {i n : Nat} (h : rx_ K C D b xls xlc) (hi : i < 40) (hs : ¬ (si_ b K i ∧ D K i = n)) : tm_ (D K) xls xlc (tq_ (C K) (i + 1)) n = tm_ (D K) xls xlc (tq_ (C K) i) n := by
  by_cases z : i < C K
  · rw [(tq_1 z).1, (tq_1 z).2]
    refine tm_f (fun w => hs ⟨(si_iff h hi).mpr ⟨z, ?_, ?_⟩, w.1⟩)
    · rw [w.1]; exact w.2.1
    · rw [w.1]; exact w.2.2
  · rw [tq_2 z]
theorem tn_0 {n : Nat} : tm_ (D K) xls xlc (tq_ (C K) 0) n = 0 := by
  have e : tq_ (C K) 0 = 0 := if_pos (Nat.zero_le _)
  rw [e]
  have c0 : ct_n (D K) n 0 = 0 := rfl
  unfold tm_ mn_
  split <;> omega
theorem tn_e {n : Nat} (h : rx_ K C D b xls xlc) (hc : C K ≤ 40) (hn : n < 8) : tm_ (D K) xls xlc (tq_ (C K) 40) n = ln_ xls n - ln_ xlc n := by
  have e : tq_ (C K) 40 = C K := by
    unfold tq_
    by_cases z : 40 ≤ C K
    · rw [if_pos z]; omega
    · rw [if_neg z]
  rw [e]
  have a := h.2.1.1 n hn
  unfold tm_ mn_
  split
  · omega
  · rfl
/-- the lens against the empty cover: how many writes it knows -/
theorem kn_t {i n : Nat} (h : rx_ K C D b xls xlc) (hi : i < 40) (hs : ¬ b (232 * 40 + i) = 0) (hn : D K i = n) : tm_ (D K) xls 0 (tq_ (C K) (i + 1)) n = tm_ (D K) xls 0 (tq_ (C K) i) n + 1 := by
  have p := (h.2.1.2 i hi).mp hs
  rw [(tq_1 p.1).1, (tq_1 p.1).2]
  refine tm_t hn (by rw [ln_0]; exact Nat.zero_le _) ?_
  rw [← hn]
  exact p.2
theorem kn_f {i n : Nat} (h : rx_ K C D b xls xlc) (hi : i < 40) (hs : ¬ (¬ b (232 * 40 + i) = 0 ∧ D K i = n)) : tm_ (D K) xls 0 (tq_ (C K) (i + 1)) n = tm_ (D K) xls 0 (tq_ (C K) i) n := by
  by_cases z : i < C K
  · rw [(tq_1 z).1, (tq_1 z).2]
    refine tm_f (fun w => hs ⟨(h.2.1.2 i hi).mpr ⟨z, ?_⟩, w.1⟩)
    rw [w.1]; exact w.2.2
  · rw [tq_2 z]
theorem kn_e {n : Nat} (h : rx_ K C D b xls xlc) (hc : C K ≤ 40) (hn : n < 8) : tm_ (D K) xls 0 (tq_ (C K) 40) n = ln_ xls n := by
  have e : tq_ (C K) 40 = C K := by
    unfold tq_
    by_cases z : 40 ≤ C K
    · rw [if_pos z]; omega
    · rw [if_neg z]
  rw [e]
  have a := h.2.1.1 n hn
  unfold tm_ mn_
  rw [ln_0]
  split
  · omega
  · rfl
theorem sn_t {i N : Nat} (h : rx_ K C D b xls xlc) (hi : i < 40) (hD : ∀ i, i < C K → D K i < N) (hs : si_ b K i) : sg_ (tm_ (D K) xls xlc (tq_ (C K) (i + 1))) N = sg_ (tm_ (D K) xls xlc (tq_ (C K) i)) N + 1 :=
  sg_one (j0 := D K i) (tn_t h hi hs rfl) (hD i ((si_iff h hi).mp hs).1) (fun j _ z => tn_f h hi (fun w => z w.2.symm))
theorem sn_f {i N : Nat} (h : rx_ K C D b xls xlc) (hi : i < 40) (hs : ¬ si_ b K i) : sg_ (tm_ (D K) xls xlc (tq_ (C K) (i + 1))) N = sg_ (tm_ (D K) xls xlc (tq_ (C K) i)) N :=
  sg_cg (fun j _ => tn_f h hi (fun w => hs w.1))
end
/-! the component -/
def rn_n (a c : Int64) (n : Nat) : Nat := ln_ a n - ln_ c n
section
variable {N R K : Nat} {xlt xls xlc : Int64} {xrq xwq xpc : Int32} {xal xrg xkw xac xlv xrs xrk xry xro xra xrn xan xmk xmf xmt xmy xmg xmc xpn : Nat → Int32} {xlp xst xhi xcx xaw xms : Nat → Int64}
theorem x_cov_l {post : Int64 → Prop} {S : Int64} {k : Nat} (h6 : N ≤ 6) (hk : k < 4) (hl : ∀ n, n < N → ln_ S n ≤ 40) (h : post (cv_ xlp S k N)) : ∀ d n m, n + d = N → wX_coveredBy_6 post S (nI k) xlt (nI N) (nI R) xrq xwq xpc xls xlc (nI K) xal xrg xkw xac xlv xlp xst xhi xcx xrs xrk xry xro xra xrn xan xaw xmk xmf xmt xmy xmg xmc xms xpn (m + d + 1) (cv_ xlp S k n) (nI n) := by
  intro d
  induction d with
  | zero =>
    intro n m e
    have e6 : n = N := by omega
    subst e6
    exact br_t (nI_le (Nat.le_refl _) (by omega)) h
  | succ d ih =>
    intro n m e
    have l := hl n (by omega)
    rw [wX_coveredBy_6]
    dsimp only
    refine br_f (nI_ge (by omega) (by omega)) (x_lane (by omega) ?_)
    unfold wpX_logAt
    dsimp only
    rw [ix_g, nI_clamp (n := (k * 6 + n) * 41 + ln_ S n) (by omega)]
    exact ⟨vp_in_nI (by omega) (by decide), x_join (nm_r (nI_1 n) (ih (n + 1) m (by omega)))⟩
theorem x_run {post : Int32 → Prop} {n : Nat} (hn : n < 8) (h : post (nI (rn_n xls xlc n))) : wpX_lensRun post (xlt, nI N, nI R, xrq, xwq, xpc, xls, xlc, nI K, xal, xrg, xkw, xac, xlv, xlp, xst, xhi, xcx, xrs, xrk, xry, xro, xra, xrn, xan, xaw, xmk, xmf, xmt, xmy, xmg, xmc, xms, xpn) (nI n) := by
  unfold wpX_lensRun
  dsimp only
  refine x_lane hn (x_lane hn ?_)
  have a := ln_lt xls n
  have b := ln_lt xlc n
  unfold rn_n at h
  by_cases z : ln_ xls n ≤ ln_ xlc n
  · rw [show ln_ xls n - ln_ xlc n = 0 from by omega, nI_0] at h
    exact br_t (nI_le z (by omega)) h
  · rw [← pk_sub (by omega)] at h
    exact br_f (nI_ge (by omega) (by omega)) h
theorem x_foc_l {post : Int32 → SX → Prop} (h6 : N ≤ 6) (h : post (nI (sg_ (rn_n xls xlc) N)) (xlt, nI N, nI R, xrq, xwq, xpc, xls, xlc, nI K, xal, xrg, xkw, xac, xlv, xlp, xst, xhi, xcx, xrs, xrk, xry, xro, xra, xrn, xan, xaw, xmk, xmf, xmt, xmy, xmg, xmc, xms, xpn)) : ∀ d n m, n + d = N → wX_focus_26 post xlt (nI N) (nI R) xrq xwq xpc xls xlc (nI K) xal xrg xkw xac xlv xlp xst xhi xcx xrs xrk xry xro xra xrn xan xaw xmk xmf xmt xmy xmg xmc xms xpn (m + d + 1) (nI (sg_ (rn_n xls xlc) n)) (nI n) := by
  intro d
  induction d with
  | zero =>
    intro n m e
    have e6 : n = N := by omega
    subst e6
    exact br_t (nI_le (Nat.le_refl _) (by omega)) h
  | succ d ih =>
    intro n m e
    rw [wX_focus_26]
    dsimp only
    exact br_f (nI_ge (by omega) (by omega)) (x_run (by omega) (nm_r (nI_add _ _) (nm_r (nI_1 n) (ih (n + 1) m (by omega)))))
theorem x_foc {post : Int32 → SX → Prop} {S : Int64} {k : Nat} (h6 : N ≤ 6) (hk : k < 4) (hl : ∀ n, n < N → ln_ S n ≤ 40) (h : post (nI (sg_ (rn_n S (cv_ xlp S k N)) N)) (xlt, nI N, nI R, xrq, xwq, xpc, S, cv_ xlp S k N, nI k, xal, xrg, xkw, xac, xlv, xlp, xst, xhi, xcx, xrs, xrk, xry, xro, xra, xrn, xan, xaw, xmk, xmf, xmt, xmy, xmg, xmc, xms, xpn)) : wpX_focus post (xlt, nI N, nI R, xrq, xwq, xpc, xls, xlc, nI K, xal, xrg, xkw, xac, xlv, xlp, xst, xhi, xcx, xrs, xrk, xry, xro, xra, xrn, xan, xaw, xmk, xmf, xmt, xmy, xmg, xmc, xms, xpn) S (nI k) := by
  unfold wpX_focus
  dsimp only
  exact ⟨_, x_cov_l h6 hk hl ⟨_, x_foc_l h6 h N 0 0 (by omega)⟩ N 0 0 (by omega)⟩
end
/-! the reference -/
section
variable {N R K : Nat} {xrq xwq : Int32} {ybi xkw ywn ywm ywv yal xrs xrk xry xro xra xrn xan xmk ymf ymt ymy ymg xmc yme yph ypn : Nat → Int32}
theorem y_sib_l {post : Int32 → Prop} {i : Nat} (hK : K < 4) (hi : i < 40) (h1 : (∀ t, t < 40 → ¬ ybi (232 * 40 + t) = 0 → ybi ((235 + K * 40 + t) * 40 + i) = 0) → post 1) (h0 : ¬ (∀ t, t < 40 → ¬ ybi (232 * 40 + t) = 0 → ybi ((235 + K * 40 + t) * 40 + i) = 0) → post 0) : ∀ d t m, t + d = 40 → (∀ t', t' < t → ¬ ybi (232 * 40 + t') = 0 → ybi ((235 + K * 40 + t') * 40 + i) = 0) → wY_lensSibling_17 post (nI i) (nI K) (nI N) (nI R) xrq xwq ybi xkw ywn ywm ywv yal xrs xrk xry xro xra xrn xan xmk ymf ymt ymy ymg xmc yme yph ypn (m + d + 1) (nI t) := by
  intro d
  induction d with
  | zero =>
    intro t m e a
    have e6 : t = 40 := by omega
    subst e6
    exact br_t (nI_le (Nat.le_refl 40) (by decide)) (h1 a)
  | succ d ih =>
    intro t m e a
    have v1 : vp_in (nI (232 * 40 + t)) 15800 := vp_in_nI (by omega) (by decide)
    have v2 : vp_in (nI ((235 + K * 40 + t) * 40 + i)) 15800 := vp_in_nI (by omega) (by decide)
    have e1 : 9280 + nI t = nI (232 * 40 + t) := nI_add 9280 t
    have e2 : 235 + nI K * 40 + nI t = nI (235 + K * 40 + t) := ix_a40 235 K t
    rw [wY_lensSibling_17]
    dsimp only
    rw [e1, e2, ix_40, nI_clamp (n := 232 * 40 + t) (by omega), nI_clamp (n := (235 + K * 40 + t) * 40 + i) (by omega)]
    refine br_f (nI_ge (b := 40) (by omega) (by decide)) ⟨v1, ?_⟩
    by_cases z : ybi (232 * 40 + t) = 0
    · exact br_t z (nm_r (nI_1 t) (ih (t + 1) m (by omega) (lt_s a (fun w => absurd z w))))
    · refine br_f z ⟨v2, ?_⟩
      by_cases w : ybi ((235 + K * 40 + t) * 40 + i) = 0
      · exact br_t w (nm_r (nI_1 t) (ih (t + 1) m (by omega) (lt_s a (fun _ => w))))
      · exact br_f w (h0 (fun all => w (all t (by omega) z)))
theorem y_sib {post : Int32 → Prop} {i : Nat} (hK : K < 4) (hi : i < 40) (h1 : si_ ybi K i → post 1) (h0 : ¬ si_ ybi K i → post 0) : wpY_lensSibling post (nI K, nI N, nI R, xrq, xwq, ybi, xkw, ywn, ywm, ywv, yal, xrs, xrk, xry, xro, xra, xrn, xan, xmk, ymf, ymt, ymy, ymg, xmc, yme, yph, ypn) (nI i) := by
  have v1 : vp_in (nI (232 * 40 + i)) 15800 := vp_in_nI (by omega) (by decide)
  have e1 : 9280 + nI i = nI (232 * 40 + i) := nI_add 9280 i
  unfold wpY_lensSibling
  dsimp only
  rw [e1, nI_clamp (n := 232 * 40 + i) (by omega)]
  refine ⟨v1, ?_⟩
  by_cases z : ybi (232 * 40 + i) = 0
  · exact br_t z (h0 (fun w => w.1 z))
  · exact br_f z ⟨_, y_sib_l hK hi (fun a => h1 ⟨z, a⟩) (fun a => h0 (fun w => a w.2)) 40 0 0 rfl lt_0⟩
theorem y_look_l {post : Int32 → SY → Prop} {C : Nat → Nat} {D : Nat → Nat → Nat} {xls xlc : Int64} (hx : rx_ K C D ybi xls xlc) (hD : ∀ i, i < C K → D K i < N) (h : post (nI (sg_ (tm_ (D K) xls xlc (tq_ (C K) 40)) N)) (nI K, nI N, nI R, xrq, xwq, ybi, xkw, ywn, ywm, ywv, yal, xrs, xrk, xry, xro, xra, xrn, xan, xmk, ymf, ymt, ymy, ymg, xmc, yme, yph, ypn)) : ∀ d i m, i + d = 40 → wY_look_304 post (nI K) (nI N) (nI R) xrq xwq ybi xkw ywn ywm ywv yal xrs xrk xry xro xra xrn xan xmk ymf ymt ymy ymg xmc yme yph ypn (m + d + 1) (nI (sg_ (tm_ (D K) xls xlc (tq_ (C K) i)) N)) (nI i) := by
  intro d
  induction d with
  | zero =>
    intro i m e
    have e6 : i = 40 := by omega
    subst e6
    exact br_t (nI_le (Nat.le_refl 40) (by decide)) h
  | succ d ih =>
    intro i m e
    have q := ih (i + 1) m (by omega)
    rw [wY_look_304]
    dsimp only
    refine br_f (nI_ge (b := 40) (by omega) (by decide)) (y_sib hx.1 (by omega) (fun s => br_f (by decide) ?_) (fun s => br_t rfl ?_))
    · rw [sn_t hx (by omega) hD s, ← nI_1] at q
      exact nm_e (nm_r (nI_1 i) q)
    · rw [sn_f hx (by omega) s] at q
      exact nm_r (nI_1 i) q
end
section
variable {N R K : Nat} {xlt xls xlc : Int64} {xrq xwq xpc : Int32} {xal xrg xkw xac xlv xrs xrk xry xro xra xrn xan xmk xmf xmt xmy xmg xmc xpn ybi ywn ywm ywv yal ymf ymt ymy ymg yme yph ypn : Nat → Int32} {xlp xst xhi xcx xaw xms : Nat → Int64}
variable {ex : Nat} {C : Nat → Nat} {D : Nat → Nat → Nat}
variable {k : Nat}
theorem x_look {post : Int32 → SX → Prop} {y r : Nat} {S : Int64} (q : QR ex N R K C D xls xlc xal xrg xkw xac xlv xlp xst xhi xcx xrs xry xro xan xaw xmk xmf xmt xmy xmg xmc xms ybi ywn ywm ywv yal ymf ymt ymy ymg) (hy : y < 4) (hS : rr_ C D ybi y S r) (h : post (nI (sg_ (rn_n S (cv_ xlp S y N)) N)) (xlt, nI N, nI R, xrq, xwq, xpc, S, cv_ xlp S y N, nI y, xal, xrg, xkw, xac, xlv, xlp, xst, xhi, xcx, xrs, xrk, xry, xro, xra, xrn, xan, xaw, xmk, xmf, xmt, xmy, xmg, xmc, xms, xpn)) : wpX_focus post (xlt, nI N, nI R, xrq, xwq, xpc, xls, xlc, nI K, xal, xrg, xkw, xac, xlv, xlp, xst, xhi, xcx, xrs, xrk, xry, xro, xra, xrn, xan, xaw, xmk, xmf, xmt, xmy, xmg, xmc, xms, xpn) S (nI y) := by
  have h6 := q.1.2.1
  have cx := q_cx q hy
  refine x_foc h6 hy (fun n hn => ?_) h
  have a := hS.1 n (by omega)
  have b := ct_le (D y) n (C y)
  have c := cx.1
  omega
theorem y_283 {post : Int32 → SY → Prop} {y r : Nat} {S : Int64} (q : QR ex N R K C D xls xlc xal xrg xkw xac xlv xlp xst xhi xcx xrs xry xro xan xaw xmk xmf xmt xmy xmg xmc xms ybi ywn ywm ywv yal ymf ymt ymy ymg) (hy : y < 4) (hr : r < 232) (hS : rr_ C D ybi y S r) (h : post (nI (sg_ (rn_n S (cv_ xlp S y N)) N)) (nI y, nI N, nI R, xrq, xwq, cp_ ybi (r) (232), xkw, ywn, ywm, ywv, yal, xrs, xrk, xry, xro, xra, xrn, xan, xmk, ymf, ymt, ymy, ymg, xmc, yme, yph, ypn)) : wY_look_283 post (nI r) (nI y) (nI K) (nI N) (nI R) xrq xwq ybi xkw ywn ywm ywv yal xrs xrk xry xro xra xrn xan xmk ymf ymt ymy ymg xmc yme yph ypn := by
  have h6 := q.1.2.1
  have cx := q_cx q hy
  have hL := q.2.2.2.1 y hy
  have q2 := q_lens q hy (by omega) (by omega) hS
  have hx := q2.2.2.2.2.2.2.2.2.2
  have es : sg_ (rn_n S (cv_ xlp S y N)) N = sg_ (tm_ (D y) S (cv_ xlp S y N) (tq_ (C y) 40)) N := sg_cg (fun j hj => (tn_e hx cx.1 (by omega)).symm)
  rw [es] at h
  unfold wY_look_283
  refine y_copy (r := 232) (by omega) (by omega) (q_01 q) ?_
  have w := y_look_l (K := y) hx hL.2.1 h 40 0 0 rfl
  have e0 : sg_ (tm_ (D y) S (cv_ xlp S y N) (tq_ (C y) 0)) N = 0 := sg_0 (fun j _ => tn_0)
  rw [e0, nI_0] at w
  exact ⟨_, w⟩
theorem m_look (q : QR 4 N R K C D xls xlc xal xrg xkw xac xlv xlp xst xhi xcx xrs xry xro xan xaw xmk xmf xmt xmy xmg xmc xms ybi ywn ywm ywv yal ymf ymt ymy ymg) (v1 v2 v3 v4 : Int32) : wpX_look (fun r u' => wpY_look (fun r' v' => r' = r ∧ i_Rel k u' v') (nI K, nI N, nI R, xrq, xwq, ybi, xkw, ywn, ywm, ywv, yal, xrs, xrk, xry, xro, xra, xrn, xan, xmk, ymf, ymt, ymy, ymg, xmc, yme, yph, ypn) v1 v2 v3 v4) (xlt, nI N, nI R, xrq, xwq, xpc, xls, xlc, nI K, xal, xrg, xkw, xac, xlv, xlp, xst, xhi, xcx, xrs, xrk, xry, xro, xra, xrn, xan, xaw, xmk, xmf, xmt, xmy, xmg, xmc, xms, xpn) v1 v2 v3 v4 := by
  have h6 := q.1.2.1
  unfold wpX_look wpY_look
  dsimp only
  rcases rng v1 (n := 5) (by decide) with ⟨j, hj, rfl⟩ | hx
  · refine br_f (nI_pos (by omega)) (br_f (nI_nlt (b := j) (a := 4) (by omega) (by decide)) ?_)
    have cs : j = 0 ∨ j = 1 ∨ j = 2 ∨ j = 3 ∨ j = 4 := by omega
    rcases cs with rfl | rfl | rfl | rfl | rfl
    · refine br_t rfl ?_
      rcases rng v2 (n := N) (by omega) with ⟨a, ha, rfl⟩ | hx
      · rcases rng v3 (n := 4) (by decide) with ⟨y, hy, rfl⟩ | hx
        · have hS := q_st q hy (t := a) (by omega)
          have q2 := q_lens q hy (by omega) (by omega) hS
          refine x_isNode_t h6 ha (br_f (by decide) (x_isKey_t hy (br_f (by decide) ?_)))
          rw [ix_4, nI_clamp (n := a * 4 + y) (by omega)]
          exact ⟨vp_in_nI (by omega) (by decide), x_look q hy hS (br_t rfl (y_out_t ha (by omega) (br_t rfl (y_out_t (L := 4) hy (by decide) (br_t rfl (nm_e (y_283 q hy (by omega) hS ⟨rfl, zz_in q2⟩)))))))⟩
        · exact x_isNode_t h6 ha (br_f (by decide) (x_isKey_f hx (br_t rfl (br_t rfl (y_out_t ha (by omega) (br_t rfl (y_out_f (L := 4) hx (br_f (by decide) ⟨rfl, zz_in q⟩))))))))
      · exact x_isNode_f hx (br_t rfl (br_t rfl (y_out_f hx (br_f (by decide) ⟨rfl, zz_in q⟩))))
    · refine br_f (by decide) (br_t rfl ?_)
      rcases rng v2 (n := N) (by omega) with ⟨a, ha, rfl⟩ | hx
      · rcases rng v3 (n := N) (by omega) with ⟨t, ht, rfl⟩ | hx
        · rcases rng v4 (n := 4) (by decide) with ⟨y, hy, rfl⟩ | hx
          · have hS := q_hi q hy (a := a) (t := t) (by omega) (by omega)
            have q2 := q_lens q hy (by omega) (by omega) hS
            refine x_isNode_t h6 ha (br_f (by decide) (x_isNode_t h6 ht (br_f (by decide) (x_isKey_t hy (br_f (by decide) ?_)))))
            unfold wpX_hintAt
            dsimp only
            rw [ix_h, nI_clamp (n := (a * 6 + t) * 4 + y) (by omega)]
            exact ⟨vp_in_nI (by omega) (by decide), x_look q hy hS (br_f (by decide) (br_t rfl (y_out_t ha (by omega) (br_t rfl (y_out_t ht (by omega) (br_t rfl (y_out_t (L := 4) hy (by decide) (br_t rfl (y_hrow (y_283 q hy (by omega) hS ⟨rfl, zz_in q2⟩))))))))))⟩
          · exact x_isNode_t h6 ha (br_f (by decide) (x_isNode_t h6 ht (br_f (by decide) (x_isKey_f hx (br_t rfl (br_f (by decide) (br_t rfl (y_out_t ha (by omega) (br_t rfl (y_out_t ht (by omega) (br_t rfl (y_out_f (L := 4) hx (br_f (by decide) ⟨rfl, zz_in q⟩)))))))))))))
        · exact x_isNode_t h6 ha (br_f (by decide) (x_isNode_f hx (br_t rfl (br_f (by decide) (br_t rfl (y_out_t ha (by omega) (br_t rfl (y_out_f hx (br_f (by decide) ⟨rfl, zz_in q⟩)))))))))
      · exact x_isNode_f hx (br_t rfl (br_f (by decide) (br_t rfl (y_out_f hx (br_f (by decide) ⟨rfl, zz_in q⟩)))))
    · refine br_f (by decide) (br_f (by decide) (br_t rfl ?_))
      rcases rng v2 (n := 4) (by decide) with ⟨c, hc, rfl⟩ | hx
      · rcases rng v3 (n := 4) (by decide) with ⟨y, hy, rfl⟩ | hx
        · have hS := q_cxt q hy hc
          have q2 := q_lens q hy (by omega) (by omega) hS
          have e2 : 168 + nI c * 4 + nI y = nI (168 + c * 4 + y) := ix_a4 168 c y
          refine x_isClient_t hc (br_f (by decide) (x_isKey_t hy (br_f (by decide) ?_)))
          rw [e2, ix_4, nI_clamp (n := c * 4 + y) (by omega)]
          exact ⟨vp_in_nI (by omega) (by decide), x_look q hy hS (br_f (by decide) (br_f (by decide) (br_t rfl (y_out_t (L := 4) hc (by decide) (br_t rfl (y_out_t (L := 4) hy (by decide) (br_t rfl (nm_e (y_283 q hy (by omega) hS ⟨rfl, zz_in q2⟩)))))))))⟩
        · exact x_isClient_t hc (br_f (by decide) (x_isKey_f hx (br_t rfl (br_f (by decide) (br_f (by decide) (br_t rfl (y_out_t (L := 4) hc (by decide) (br_t rfl (y_out_f (L := 4) hx (br_f (by decide) ⟨rfl, zz_in q⟩))))))))))
      · exact x_isClient_f hx (br_t rfl (br_f (by decide) (br_f (by decide) (br_t rfl (y_out_f (L := 4) hx (br_f (by decide) ⟨rfl, zz_in q⟩))))))
    · refine br_f (by decide) (br_f (by decide) (br_f (by decide) (br_t rfl ?_)))
      rcases rng v2 (n := 24) (by decide) with ⟨s, hs, rfl⟩ | hx
      · have v : vp_in (nI s) 24 := vp_in_nI hs (by decide)
        rw [nI_clamp (n := s) (by omega)]
        refine x_isSlot_t hs (br_f (by decide) ⟨v, ?_⟩)
        by_cases z : xmk s = 0
        · exact br_t z (br_f (by decide) (br_f (by decide) (br_f (by decide) (br_t rfl (y_out_t (L := 24) hs (by decide) (br_t rfl ⟨v, br_t z ⟨rfl, zz_in q⟩⟩))))))
        · obtain ⟨k2, ff, tt, yy, a1, a2, a3, a4, a5, a6, a7, a8, a9, a10, a11, a12, a13, a14, a15⟩ := (q.2.2.2.2.2.2.1 s hs).2 z
          have q2 := q_lens q a5 (by omega) (by omega) a15
          have e2 : 184 + nI s = nI (184 + s) := nI_add 184 s
          rw [a10, a11, e2]
          exact br_f z ⟨v, v, x_look q a5 a15 (br_f (by decide) (br_f (by decide) (br_f (by decide) (br_t rfl (y_out_t (L := 24) hs (by decide) (br_t rfl ⟨v, br_f z (nm_e ⟨v, nm_e (y_283 q a5 (by omega) a15 ⟨rfl, zz_in q2⟩)⟩)⟩))))))⟩
      · exact x_isSlot_f hx (br_t rfl (br_f (by decide) (br_f (by decide) (br_f (by decide) (br_t rfl (y_out_f (L := 24) hx (br_f (by decide) ⟨rfl, zz_in q⟩)))))))
    · refine br_f (by decide) (br_f (by decide) (br_f (by decide) (br_f (by decide) (br_t rfl ?_))))
      rcases rng v2 (n := 4) (by decide) with ⟨c, hc, rfl⟩ | hx
      · rcases rng v3 (n := N) (by omega) with ⟨n, hn, rfl⟩ | hx
        · have v : vp_in (nI c) 4 := vp_in_nI hc (by decide)
          have v2 : vp_in (nI (c * 6 + n)) 24 := vp_in_nI (by omega) (by decide)
          have e2 : 208 + nI c * 6 + nI n = nI (208 + c * 6 + n) := ix_a6 208 c n
          rw [e2, ix_6, nI_clamp (n := c) (by omega), nI_clamp (n := c * 6 + n) (by omega)]
          refine x_isClient_t hc (br_f (by decide) (x_isNode_t h6 hn (br_f (by decide) ⟨v, ?_⟩)))
          by_cases z1 : xrs c = 1
          · refine br_t z1 ⟨v, ?_⟩
            by_cases z2 : xrk c = 2
            · refine br_t z2 ⟨v2, ?_⟩
              by_cases z3 : xan (c * 6 + n) = 0
              · exact br_t z3 (br_f (by decide) (br_f (by decide) (br_f (by decide) (br_f (by decide) (br_t rfl (y_out_t (L := 4) hc (by decide) (br_t rfl (y_out_t hn (by omega) (br_t rfl ⟨v, br_t z1 ⟨v, br_t z2 ⟨v2, br_t z3 ⟨rfl, zz_in q⟩⟩⟩⟩)))))))))
              · obtain ⟨yy, y1, y2, y3⟩ := q.2.2.2.2.2.2.2.2.1 c hc n (by omega) z3
                have q2 := q_lens q y1 (by omega) (by omega) y3
                rw [y2]
                exact br_f z3 ⟨v2, v, x_look q y1 y3 (br_f (by decide) (br_f (by decide) (br_f (by decide) (br_f (by decide) (br_t rfl (y_out_t (L := 4) hc (by decide) (br_t rfl (y_out_t hn (by omega) (br_t rfl ⟨v, br_t z1 ⟨v, br_t z2 ⟨v2, br_f z3 (nm_e ⟨v, nm_e (y_283 q y1 (by omega) y3 ⟨rfl, zz_in q2⟩)⟩)⟩⟩⟩)))))))))⟩
            · exact br_f z2 (br_f (by decide) (br_f (by decide) (br_f (by decide) (br_f (by decide) (br_t rfl (y_out_t (L := 4) hc (by decide) (br_t rfl (y_out_t hn (by omega) (br_t rfl ⟨v, br_t z1 ⟨v, br_f z2 ⟨rfl, zz_in q⟩⟩⟩)))))))))
          · exact br_f z1 (br_f (by decide) (br_f (by decide) (br_f (by decide) (br_f (by decide) (br_t rfl (y_out_t (L := 4) hc (by decide) (br_t rfl (y_out_t hn (by omega) (br_t rfl ⟨v, br_f z1 ⟨rfl, zz_in q⟩⟩)))))))))
        · exact x_isClient_t hc (br_f (by decide) (x_isNode_f hx (br_t rfl (br_f (by decide) (br_f (by decide) (br_f (by decide) (br_f (by decide) (br_t rfl (y_out_t (L := 4) hc (by decide) (br_t rfl (y_out_f hx (br_f (by decide) ⟨rfl, zz_in q⟩))))))))))))
      · exact x_isClient_f hx (br_t rfl (br_f (by decide) (br_f (by decide) (br_f (by decide) (br_f (by decide) (br_t rfl (y_out_f (L := 4) hx (br_f (by decide) ⟨rfl, zz_in q⟩))))))))
  · have ne : ∀ j, j < 5 → ¬ v1 = nI j := fun j hj e => by
      subst e
      rcases hx with w | w
      · exact nI_pos (n := j) (by omega) w
      · exact nI_ge (b := 5) hj (by decide) w
    by_cases z : v1 < 0
    · exact br_t z (br_f (ne 0 (by omega)) (br_f (ne 1 (by omega)) (br_f (ne 2 (by omega)) (br_f (ne 3 (by omega)) (br_f (ne 4 (by omega)) ⟨rfl, zz_in q⟩)))))
    · exact br_f z (br_t (lit_gt (n := 4) (by decide) (hx.elim (fun w => absurd w z) id)) (br_f (ne 0 (by omega)) (br_f (ne 1 (by omega)) (br_f (ne 2 (by omega)) (br_f (ne 3 (by omega)) (br_f (ne 4 (by omega)) ⟨rfl, zz_in q⟩))))))
end
end
section
/-! known, sibling, debts -/
section
variable {N R K : Nat} {xrq xwq : Int32} {ybi xkw ywn ywm ywv yal xrs xrk xry xro xra xrn xan xmk ymf ymt ymy ymg xmc yme yph ypn : Nat → Int32}
theorem y_known_l {post : Int32 → Prop} {C : Nat → Nat} {D : Nat → Nat → Nat} {xls xlc : Int64} {n : Nat} (hx : rx_ K C D ybi xls xlc) (hn : n < 6) (hD : ∀ i, i < C K → D K i < 6 ∧ ywn (K * 40 + i) = nI (D K i)) (h : post (nI (tm_ (D K) xls 0 (tq_ (C K) 40) n))) : ∀ d i m, i + d = 40 → wY_known_18 post (nI n) (nI K) (nI N) (nI R) xrq xwq ybi xkw ywn ywm ywv yal xrs xrk xry xro xra xrn xan xmk ymf ymt ymy ymg xmc yme yph ypn (m + d + 1) (nI (tm_ (D K) xls 0 (tq_ (C K) i) n)) (nI i) := by
  have hK := hx.1
  intro d
  induction d with
  | zero =>
    intro i m e
    have e6 : i = 40 := by omega
    subst e6
    exact br_t (nI_le (Nat.le_refl 40) (by decide)) h
  | succ d ih =>
    intro i m e
    have q := ih (i + 1) m (by omega)
    have v1 : vp_in (nI (232 * 40 + i)) 15800 := vp_in_nI (by omega) (by decide)
    have v2 : vp_in (nI (K * 40 + i)) 160 := vp_in_nI (by omega) (by decide)
    have e1 : 9280 + nI i = nI (232 * 40 + i) := nI_add 9280 i
    rw [wY_known_18]
    dsimp only
    rw [e1, ix_40, nI_clamp (n := 232 * 40 + i) (by omega), nI_clamp (n := K * 40 + i) (by omega)]
    refine br_f (nI_ge (b := 40) (by omega) (by decide)) ⟨v1, ?_⟩
    by_cases z : ybi (232 * 40 + i) = 0
    · rw [kn_f hx (by omega) (fun w => w.1 z)] at q
      exact br_t z (nm_r (nI_1 i) q)
    · refine br_f z ⟨v2, ?_⟩
      have iC := rs_out hx.2.1 (by omega) z
      obtain ⟨d1, d2⟩ := hD i iC
      by_cases w : D K i = n
      · rw [kn_t hx (by omega) z w, ← nI_1] at q
        exact br_t (by rw [d2, w]) (nm_e (nm_r (nI_1 i) q))
      · rw [kn_f hx (by omega) (fun u => w u.2)] at q
        exact br_f (fun u => w ((nI_eq (by omega) (by omega)).mp (d2.symm.trans u))) (nm_r (nI_1 i) q)
/-- the reference's walk over the siblings of node n, none of them the one asked for -/
theorem y_sb_skip {post : Int32 → Prop} {J : Int32 → Int32 → Prop} {C : Nat → Nat} {D : Nat → Nat → Nat} {xls xlc : Int64} {n ix sn : Nat} {x2 : Int32} (hx : rx_ K C D ybi xls xlc) (hn : n < 6) (hix : ix < 2 ^ 31) (hsn : sn < 100000) (hC : C K ≤ 40) (hD : ∀ i, i < C K → D K i < 6 ∧ ywn (K * 40 + i) = nI (D K i)) {e : Nat} (he : e ≤ 40) (hne : ∀ i, i < e → si_ ybi K i → D K i = n → ¬ sn + tm_ (D K) xls xlc (tq_ (C K) i) n = ix) {f : Nat} (h : wY_sibling_32 post J (nI ix) x2 (nI n) (nI K) (nI N) (nI R) xrq xwq ybi xkw ywn ywm ywv yal xrs xrk xry xro xra xrn xan xmk ymf ymt ymy ymg xmc yme yph ypn f (nI (sn + tm_ (D K) xls xlc (tq_ (C K) e) n)) (nI e)) : ∀ d i, i + d = e → wY_sibling_32 post J (nI ix) x2 (nI n) (nI K) (nI N) (nI R) xrq xwq ybi xkw ywn ywm ywv yal xrs xrk xry xro xra xrn xan xmk ymf ymt ymy ymg xmc yme yph ypn (f + d) (nI (sn + tm_ (D K) xls xlc (tq_ (C K) i) n)) (nI i) := by
  have hK := hx.1
  intro d
  induction d with
  | zero =>
    intro i e1
    have e6 : i = e := by omega
    subst e6
    exact h
  | succ d ih =>
    intro i e1
    have q := ih (i + 1) (by omega)
    have v2 : vp_in (nI (K * 40 + i)) 160 := vp_in_nI (by omega) (by decide)
    show wY_sibling_32 post J (nI ix) x2 (nI n) (nI K) (nI N) (nI R) xrq xwq ybi xkw ywn ywm ywv yal xrs xrk xry xro xra xrn xan xmk ymf ymt ymy ymg xmc yme yph ypn (f + d + 1) (nI (sn + tm_ (D K) xls xlc (tq_ (C K) i) n)) (nI i)
    rw [wY_sibling_32]
    dsimp only
    refine br_f (nI_ge (b := 40) (by omega) (by decide)) (nm_r (ix_40 K i) ?_)
    rw [nI_clamp (n := K * 40 + i) (by omega)]
    refine ⟨v2, ?_⟩
    by_cases w : ywn (K * 40 + i) = nI n
    · refine br_t w (y_sib hK (by omega) (fun s => ?_) (fun s => ?_))
      · have iC := ((si_iff hx (by omega)).mp s).1
        obtain ⟨d1, d2⟩ := hD i iC
        have dn : D K i = n := (nI_eq (by omega) (by omega)).mp (d2.symm.trans w)
        have b : tm_ (D K) xls xlc (tq_ (C K) i) n ≤ 256 := by
          have := ln_lt xls n
          unfold tm_ mn_
          split <;> omega
        rw [tn_t hx (by omega) s dn, ← Nat.add_assoc, ← nI_1] at q
        exact br_f (by decide) (br_f (fun u => hne i (by omega) s dn ((nI_eq (by omega) hix).mp u)) (nm_e (nm_r (nI_1 i) q)))
      · rw [tn_f hx (by omega) (fun u => s u.1)] at q
        exact br_t rfl (nm_r (nI_1 i) q)
    · rw [tn_f hx (by omega) (fun u => w (by
        have iC := ((si_iff hx (by omega)).mp u.1).1
        rw [(hD i iC).2, u.2]))] at q
      exact br_f w (nm_r (nI_1 i) q)
end
section
variable {N R K : Nat} {xlt xls xlc : Int64} {xrq xwq xpc : Int32} {xal xrg xkw xac xlv xrs xrk xry xro xra xrn xan xmk xmf xmt xmy xmg xmc xpn ybi ywn ywm ywv yal ymf ymt ymy ymg yme yph ypn : Nat → Int32} {xlp xst xhi xcx xaw xms : Nat → Int64}
variable {ex : Nat} {C : Nat → Nat} {D : Nat → Nat → Nat}
variable {k : Nat}
theorem m_known (q : QR 4 N R K C D xls xlc xal xrg xkw xac xlv xlp xst xhi xcx xrs xry xro xan xaw xmk xmf xmt xmy xmg xmc xms ybi ywn ywm ywv yal ymf ymt ymy ymg) (v1 : Int32) : wpX_known (fun r => wpY_known (fun r' => r' = r ∧ i_Rel k (xlt, nI N, nI R, xrq, xwq, xpc, xls, xlc, nI K, xal, xrg, xkw, xac, xlv, xlp, xst, xhi, xcx, xrs, xrk, xry, xro, xra, xrn, xan, xaw, xmk, xmf, xmt, xmy, xmg, xmc, xms, xpn) (nI K, nI N, nI R, xrq, xwq, ybi, xkw, ywn, ywm, ywv, yal, xrs, xrk, xry, xro, xra, xrn, xan, xmk, ymf, ymt, ymy, ymg, xmc, yme, yph, ypn)) (nI K, nI N, nI R, xrq, xwq, ybi, xkw, ywn, ywm, ywv, yal, xrs, xrk, xry, xro, xra, xrn, xan, xmk, ymf, ymt, ymy, ymg, xmc, yme, yph, ypn) v1) (xlt, nI N, nI R, xrq, xwq, xpc, xls, xlc, nI K, xal, xrg, xkw, xac, xlv, xlp, xst, xhi, xcx, xrs, xrk, xry, xro, xra, xrn, xan, xaw, xmk, xmf, xmt, xmy, xmg, xmc, xms, xpn) v1 := by
  have h6 := q.1.2.1
  have hx := q.2.2.2.2.2.2.2.2.2
  obtain ⟨l1, l2, _, l4, _⟩ := q.2.2.2.1 K hx.1
  unfold wpX_known wpY_known
  dsimp only
  rcases rng v1 (n := N) (by omega) with ⟨j, hj, rfl⟩ | hx'
  · refine x_isNode_t h6 hj (br_f (by decide) (x_lane (by omega) ?_))
    refine y_out_t hj (by omega) (br_t rfl ?_)
    have w := y_known_l (post := fun r' => r' = nI (ln_ xls j) ∧ i_Rel k (xlt, nI N, nI R, xrq, xwq, xpc, xls, xlc, nI K, xal, xrg, xkw, xac, xlv, xlp, xst, xhi, xcx, xrs, xrk, xry, xro, xra, xrn, xan, xaw, xmk, xmf, xmt, xmy, xmg, xmc, xms, xpn) (nI K, nI N, nI R, xrq, xwq, ybi, xkw, ywn, ywm, ywv, yal, xrs, xrk, xry, xro, xra, xrn, xan, xmk, ymf, ymt, ymy, ymg, xmc, yme, yph, ypn)) (R := R) (N := N) (xrq := xrq) (xwq := xwq) (xkw := xkw) (ywn := ywn) (ywm := ywm) (ywv := ywv) (yal := yal) (xrs := xrs) (xrk := xrk) (xry := xry) (xro := xro) (xra := xra) (xrn := xrn) (xan := xan) (xmk := xmk) (ymf := ymf) (ymt := ymt) (ymy := ymy) (ymg := ymg) (xmc := xmc) (yme := yme) (yph := yph) (ypn := ypn) (n := j) hx (by omega) (fun i hi => ⟨Nat.lt_of_lt_of_le (l2 i hi) h6, (l4 i hi).1⟩) ⟨by rw [kn_e hx l1 (by omega)], zz_in q⟩ 40 0 0 rfl
    rw [tn_0, nI_0] at w
    exact ⟨_, w⟩
  · exact x_isNode_f hx' (br_t rfl (y_out_f hx' (br_f (by decide) ⟨rfl, zz_in q⟩)))
/-- node n holds the sibling that is asked for -/
theorem k_sib_hit (q : QR ex N R K C D xls xlc xal xrg xkw xac xlv xlp xst xhi xcx xrs xry xro xan xaw xmk xmf xmt xmy xmg xmc xms ybi ywn ywm ywv yal ymf ymt ymy ymg) {n ix sn : Nat} {x2 : Int32} (hn : n < N) (hix : ix < 2 ^ 31) (hsn : sn < 100000) (h1 : sn ≤ ix) (h2 : ix < sn + rn_n xls xlc n) (h012 : x2 = 0 ∨ x2 = 1 ∨ x2 = 2) : ∃ r : Int32, (∀ post : Int32 → Prop, post r → wpX_writeField post (xlt, nI N, nI R, xrq, xwq, xpc, xls, xlc, nI K, xal, xrg, xkw, xac, xlv, xlp, xst, xhi, xcx, xrs, xrk, xry, xro, xra, xrn, xan, xaw, xmk, xmf, xmt, xmy, xmg, xmc, xms, xpn) (nI K) (nI n) (nI (ln_ xlc n + 1 + (ix - sn))) x2) ∧ (∀ (post : Int32 → Prop) (J : Int32 → Int32 → Prop), post r → ∃ f, wY_sibling_32 post J (nI ix) x2 (nI n) (nI K) (nI N) (nI R) xrq xwq ybi xkw ywn ywm ywv yal xrs xrk xry xro xra xrn xan xmk ymf ymt ymy ymg xmc yme yph ypn f (nI sn) 0) := by
  have h6 := q.1.2.1
  have hx := q.2.2.2.2.2.2.2.2.2
  have hK := hx.1
  obtain ⟨l1, l2, _, l4, _⟩ := q.2.2.2.1 K hx.1
  have L := hx.2.1.1 n (by omega)
  unfold rn_n at h2
  obtain ⟨i0, i1, i2, i3⟩ := ct_ex (D := D K) (n := n) (C := C K) (m := ln_ xlc n + (ix - sn)) (by omega)
  have ctb := ct_le (D K) n i0
  obtain ⟨w1, w2, w3⟩ := l4 i0 i1
  rw [i2, i3] at w2 w3
  rw [i2] at w1
  have hs : si_ ybi K i0 := (si_iff hx (by omega)).mpr ⟨i1, by rw [i2, i3]; omega, by rw [i2, i3]; omega⟩
  have t0 : tm_ (D K) xls xlc (tq_ (C K) i0) n = ix - sn := by
    rw [(tq_1 i1).1]
    unfold tm_ mn_
    rw [i3]
    split <;> omega
  have ea : ln_ xlc n + (ix - sn) + 1 = ln_ xlc n + 1 + (ix - sn) := by omega
  rw [ea] at w2 w3
  have lb := ln_lt xls n
  refine ⟨if x2 = 1 then nI n else if x2 = 2 then nI (ln_ xlc n + 1 + (ix - sn)) else xlv ((K * 6 + n) * 41 + (ln_ xlc n + 1 + (ix - sn))), ?_, ?_⟩
  · intro post hp
    unfold wpX_writeField wpX_logAt
    dsimp only
    by_cases c1 : x2 = 1
    · rw [if_pos c1] at hp
      exact br_t c1 hp
    · rw [if_neg c1] at hp
      by_cases c2 : x2 = 2
      · rw [if_pos c2] at hp
        exact br_f c1 (br_t c2 hp)
      · rw [if_neg c2] at hp
        rw [ix_g, nI_clamp (n := (K * 6 + n) * 41 + (ln_ xlc n + 1 + (ix - sn))) (by omega)]
        exact br_f c1 (br_f c2 ⟨vp_in_nI (by omega) (by decide), hp⟩)
  · intro post J hp
    have v2 : vp_in (nI (K * 40 + i0)) 160 := vp_in_nI (by omega) (by decide)
    have fin : wY_sibling_32 post J (nI ix) x2 (nI n) (nI K) (nI N) (nI R) xrq xwq ybi xkw ywn ywm ywv yal xrs xrk xry xro xra xrn xan xmk ymf ymt ymy ymg xmc yme yph ypn 1 (nI (sn + tm_ (D K) xls xlc (tq_ (C K) i0) n)) (nI i0) := by
      rw [wY_sibling_32]
      dsimp only
      refine br_f (nI_ge (b := 40) (by omega) (by decide)) (nm_r (ix_40 K i0) ?_)
      rw [nI_clamp (n := K * 40 + i0) (by omega)]
      refine ⟨v2, br_t w1 (y_sib hK (by omega) (fun s => br_f (by decide) (br_t ?_ ?_)) (fun s => absurd hs s))⟩
      · rw [t0, show sn + (ix - sn) = ix from by omega]
      · rcases h012 with c | c | c
        · subst c
          rw [if_neg (by decide), if_neg (by decide)] at hp
          refine br_t rfl ⟨v2, ?_⟩
          rw [← w3]
          exact hp
        · subst c
          rw [if_pos rfl] at hp
          exact br_f (by decide) (br_t rfl hp)
        · subst c
          rw [if_neg (by decide), if_pos rfl] at hp
          refine br_f (by decide) (br_f (by decide) ⟨v2, ?_⟩)
          rw [w2]
          exact hp
    have w := y_sb_skip hx (by omega) hix hsn l1 (fun i hi => ⟨Nat.lt_of_lt_of_le (l2 i hi) h6, (l4 i hi).1⟩) (e := i0) (by omega) (fun i hi s dn => ?_) fin i0 0 (by omega)
    · rw [tn_0, nI_0] at w
      exact ⟨_, w⟩
    · obtain ⟨p1, p2, p3⟩ := (si_iff hx (by omega)).mp s
      rw [dn] at p2 p3
      have lt := ct_lt dn hi
      rw [(tq_1 p1).1]
      unfold tm_ mn_
      split <;> omega
theorem k_sib (q : QR ex N R K C D xls xlc xal xrg xkw xac xlv xlp xst xhi xcx xrs xry xro xan xaw xmk xmf xmt xmy xmg xmc xms ybi ywn ywm ywv yal ymf ymt ymy ymg) {ix : Nat} {x2 : Int32} (hix : ix < 2 ^ 31) (h012 : x2 = 0 ∨ x2 = 1 ∨ x2 = 2) : ∀ d n, n + d = N → sg_ (rn_n xls xlc) n ≤ ix → ∃ r : Int32, (∀ post : Int32 → Prop, post r → wX_sibling_20 post x2 xlt (nI N) (nI R) xrq xwq xpc xls xlc (nI K) xal xrg xkw xac xlv xlp xst xhi xcx xrs xrk xry xro xra xrn xan xaw xmk xmf xmt xmy xmg xmc xms xpn (d + 1) (nI (ix - sg_ (rn_n xls xlc) n)) (nI n)) ∧ (∀ post : Int32 → Prop, post r → wY_sibling_20 post (nI ix) x2 (nI K) (nI N) (nI R) xrq xwq ybi xkw ywn ywm ywv yal xrs xrk xry xro xra xrn xan xmk ymf ymt ymy ymg xmc yme yph ypn (d + 1) (nI (sg_ (rn_n xls xlc) n)) (nI n)) := by
  have h6 := q.1.2.1
  have hx := q.2.2.2.2.2.2.2.2.2
  obtain ⟨l1, l2, _, l4, _⟩ := q.2.2.2.1 K hx.1
  have rb : ∀ n, rn_n xls xlc n ≤ 256 := fun n => by
    have := ln_lt xls n
    unfold rn_n
    omega
  intro d
  induction d with
  | zero =>
    intro n e h
    have e6 : n = N := by omega
    subst e6
    exact ⟨-1, fun post hp => br_t (nI_le (Nat.le_refl _) (by omega)) hp, fun post hp => br_t (nI_le (Nat.le_refl _) (by omega)) hp⟩
  | succ d ih =>
    intro n e h
    have sb := sg_le rb n
    have rbn := rb n
    have sN : sg_ (rn_n xls xlc) n < 100000 := by omega
    have es : sg_ (rn_n xls xlc) (n + 1) = sg_ (rn_n xls xlc) n + rn_n xls xlc n := rfl
    by_cases z : rn_n xls xlc n ≤ ix - sg_ (rn_n xls xlc) n
    · obtain ⟨r, hX, hY⟩ := ih (n + 1) (by omega) (by omega)
      refine ⟨r, fun post hp => ?_, fun post hp => ?_⟩
      · have w := hX post hp
        rw [es, show ix - (sg_ (rn_n xls xlc) n + rn_n xls xlc n) = ix - sg_ (rn_n xls xlc) n - rn_n xls xlc n from by omega, ← pk_sub z] at w
        rw [wX_sibling_20]
        dsimp only
        exact br_f (nI_ge (by omega) (by omega)) (x_run (by omega) (br_t (nI_le z (by omega)) (nm_e (nm_r (nI_1 n) w))))
      · rw [wY_sibling_20]
        refine br_f (nI_ge (by omega) (by omega)) ?_
        have fin : wY_sibling_32 post (wY_sibling_20 post (nI ix) x2 (nI K) (nI N) (nI R) xrq xwq ybi xkw ywn ywm ywv yal xrs xrk xry xro xra xrn xan xmk ymf ymt ymy ymg xmc yme yph ypn (d + 1)) (nI ix) x2 (nI n) (nI K) (nI N) (nI R) xrq xwq ybi xkw ywn ywm ywv yal xrs xrk xry xro xra xrn xan xmk ymf ymt ymy ymg xmc yme yph ypn 1 (nI (sg_ (rn_n xls xlc) n + tm_ (D K) xls xlc (tq_ (C K) 40) n)) (nI 40) := by
          have w := hY post hp
          rw [es] at w
          rw [tn_e hx l1 (by omega)]
          exact br_t (nI_le (Nat.le_refl 40) (by decide)) (nm_r (nI_1 n) w)
        have w := y_sb_skip hx (by omega) hix sN l1 (fun i hi => ⟨Nat.lt_of_lt_of_le (l2 i hi) h6, (l4 i hi).1⟩) (e := 40) (Nat.le_refl _) (fun i hi s dn => ?_) fin 40 0 rfl
        · rw [tn_0, nI_0] at w
          exact ⟨_, w⟩
        · obtain ⟨p1, p2, p3⟩ := (si_iff hx (by omega)).mp s
          rw [dn] at p2 p3
          rw [(tq_1 p1).1]
          have z2 : ln_ xls n - ln_ xlc n ≤ ix - sg_ (rn_n xls xlc) n := z
          unfold tm_ mn_
          split <;> omega
    · obtain ⟨r, hX, hY⟩ := k_sib_hit (xlt := xlt) (xrq := xrq) (xwq := xwq) (xpc := xpc) (xrk := xrk) (xra := xra) (xrn := xrn) (xpn := xpn) (yme := yme) (yph := yph) (ypn := ypn) (x2 := x2) q (n := n) (ix := ix) (sn := sg_ (rn_n xls xlc) n) (by omega) hix sN h (by omega) h012
      refine ⟨r, fun post hp => ?_, fun post hp => ?_⟩
      · rw [wX_sibling_20]
        dsimp only
        refine br_f (nI_ge (by omega) (by omega)) (x_run (by omega) (br_f (nI_ge (by omega) (by omega)) (x_lane (by omega) ?_)))
        rw [nI_1, nI_add]
        exact hX post hp
      · rw [wY_sibling_20]
        exact br_f (nI_ge (by omega) (by omega)) (hY post _ hp)
theorem m_sibling (q : QR 4 N R K C D xls xlc xal xrg xkw xac xlv xlp xst xhi xcx xrs xry xro xan xaw xmk xmf xmt xmy xmg xmc xms ybi ywn ywm ywv yal ymf ymt ymy ymg) (v1 v2 : Int32) : wpX_sibling (fun r => wpY_sibling (fun r' => r' = r ∧ i_Rel k (xlt, nI N, nI R, xrq, xwq, xpc, xls, xlc, nI K, xal, xrg, xkw, xac, xlv, xlp, xst, xhi, xcx, xrs, xrk, xry, xro, xra, xrn, xan, xaw, xmk, xmf, xmt, xmy, xmg, xmc, xms, xpn) (nI K, nI N, nI R, xrq, xwq, ybi, xkw, ywn, ywm, ywv, yal, xrs, xrk, xry, xro, xra, xrn, xan, xmk, ymf, ymt, ymy, ymg, xmc, yme, yph, ypn)) (nI K, nI N, nI R, xrq, xwq, ybi, xkw, ywn, ywm, ywv, yal, xrs, xrk, xry, xro, xra, xrn, xan, xmk, ymf, ymt, ymy, ymg, xmc, yme, yph, ypn) v1 v2) (xlt, nI N, nI R, xrq, xwq, xpc, xls, xlc, nI K, xal, xrg, xkw, xac, xlv, xlp, xst, xhi, xcx, xrs, xrk, xry, xro, xra, xrn, xan, xaw, xmk, xmf, xmt, xmy, xmg, xmc, xms, xpn) v1 v2 := by
  unfold wpX_sibling wpY_sibling
  dsimp only
  by_cases z : v1 < 0
  · exact br_t z (br_t z ⟨rfl, zz_in q⟩)
  · refine br_f z ?_
    obtain ⟨ix, hix, rfl⟩ := nI_of z
    rcases rng v2 (n := 3) (by decide) with ⟨j, hj, rfl⟩ | hx
    · have h012 : nI j = 0 ∨ nI j = 1 ∨ nI j = 2 := by
        have c : j = 0 ∨ j = 1 ∨ j = 2 := by omega
        rcases c with rfl | rfl | rfl
        · exact Or.inl rfl
        · exact Or.inr (Or.inl rfl)
        · exact Or.inr (Or.inr rfl)
      obtain ⟨r, hX, hY⟩ := k_sib (xlt := xlt) (xrq := xrq) (xwq := xwq) (xpc := xpc) (xrk := xrk) (xra := xra) (xrn := xrn) (xpn := xpn) (yme := yme) (yph := yph) (ypn := ypn) q hix h012 N 0 (by omega) (Nat.zero_le _)
      rw [nI_0] at hX hY
      exact br_f (nI_pos (by omega)) (br_t (nI_le (b := 2) (by omega) (by decide)) ⟨_, hX _ (br_f z (y_out_t (L := 3) hj (by decide) (br_t rfl ⟨_, hY _ ⟨rfl, zz_in q⟩⟩)))⟩)
    · by_cases w : v2 < 0
      · exact br_t w (br_f z (y_out_f (L := 3) hx (br_f (by decide) ⟨rfl, zz_in q⟩)))
      · refine br_f w (br_f (fun u => ?_) (br_f z (y_out_f (L := 3) hx (br_f (by decide) ⟨rfl, zz_in q⟩))))
        have g := lit_gt (n := 2) (by decide) (hx.elim (fun u => absurd u w) id)
        exact Int32.not_le.mpr g u
end
/-! debts -/
def dm_ (mk my : Nat → Int32) (y : Int32) : Nat → Nat
  | 0 => 0
  | i + 1 => dm_ mk my y i + (if (mk i = 1 ∨ mk i = 2) ∧ my i = y then 1 else 0)
theorem dm_t {mk my : Nat → Int32} {y : Int32} {i : Nat} (h : (mk i = 1 ∨ mk i = 2) ∧ my i = y) : nI (dm_ mk my y i) + 1 = nI (dm_ mk my y (i + 1)) := by simp only [dm_]; rw [if_pos h, nI_1]
theorem dm_f {mk my : Nat → Int32} {y : Int32} {i : Nat} (h : ¬ ((mk i = 1 ∨ mk i = 2) ∧ my i = y)) : dm_ mk my y (i + 1) = dm_ mk my y i := by simp only [dm_]; rw [if_neg h, Nat.add_zero]
def hc_ (a : Nat → Int64) (y b : Nat) : Nat → Nat
  | 0 => 0
  | t + 1 => hc_ a y b t + (if a ((b * 6 + t) * 4 + y) = 0 then 0 else 1)
theorem hc_t {a : Nat → Int64} {y b t : Nat} (h : a ((b * 6 + t) * 4 + y) = 0) : hc_ a y b (t + 1) = hc_ a y b t := by simp only [hc_]; rw [if_pos h, Nat.add_zero]
theorem hc_f {a : Nat → Int64} {y b t : Nat} (h : ¬ a ((b * 6 + t) * 4 + y) = 0) : hc_ a y b (t + 1) = hc_ a y b t + 1 := by simp only [hc_]; rw [if_neg h]
section
variable {N R K : Nat} {xlt xls xlc : Int64} {xrq xwq xpc : Int32} {xal xrg xkw xac xlv xrs xrk xry xro xra xrn xan xmk xmf xmt xmy xmg xmc xpn : Nat → Int32} {xlp xst xhi xcx xaw xms : Nat → Int64}
theorem x_72 {post : Int32 → Prop} {J : Int32 → Int32 → Prop} {y b M : Nat} (h6 : N ≤ 6) (hy : y < 4) (hb : b < N) (h : J (nI (M + hc_ xhi y b N)) (nI (b + 1))) : ∀ d t m, t + d = N → wX_debts_72 post J (nI y) (nI b) xlt (nI N) (nI R) xrq xwq xpc xls xlc (nI K) xal xrg xkw xac xlv xlp xst xhi xcx xrs xrk xry xro xra xrn xan xaw xmk xmf xmt xmy xmg xmc xms xpn (m + d + 1) (nI (M + hc_ xhi y b t)) (nI t) := by
  intro d
  induction d with
  | zero =>
    intro t m e
    have e6 : t = N := by omega
    subst e6
    exact br_t (nI_le (Nat.le_refl _) (by omega)) (nm_r (nI_1 b) h)
  | succ d ih =>
    intro t m e
    have q := ih (t + 1) m (by omega)
    rw [wX_debts_72]
    unfold wpX_hintAt
    dsimp only
    rw [ix_h, nI_clamp (n := (b * 6 + t) * 4 + y) (by omega)]
    refine br_f (nI_ge (by omega) (by omega)) ⟨vp_in_nI (by omega) (by decide), ?_⟩
    by_cases z : xhi ((b * 6 + t) * 4 + y) = 0
    · rw [hc_t z] at q
      exact br_t z (nm_r (nI_1 t) q)
    · rw [hc_f z, ← Nat.add_assoc, ← nI_1] at q
      exact br_f z (nm_e (nm_r (nI_1 t) q))
theorem x_61 {post : Int32 → Prop} {y M : Nat} (h6 : N ≤ 6) (hy : y < 4) (h : post (nI (M + sg_ (fun b => hc_ xhi y b N) N))) : ∀ d b m, b + d = N → wX_debts_61 post (nI y) xlt (nI N) (nI R) xrq xwq xpc xls xlc (nI K) xal xrg xkw xac xlv xlp xst xhi xcx xrs xrk xry xro xra xrn xan xaw xmk xmf xmt xmy xmg xmc xms xpn (m + d + 1) (nI (M + sg_ (fun b => hc_ xhi y b N) b)) (nI b) := by
  intro d
  induction d with
  | zero =>
    intro b m e
    have e6 : b = N := by omega
    subst e6
    exact br_t (nI_le (Nat.le_refl _) (by omega)) h
  | succ d ih =>
    intro b m e
    have q := ih (b + 1) m (by omega)
    have es : M + sg_ (fun b => hc_ xhi y b N) (b + 1) = M + sg_ (fun b => hc_ xhi y b N) b + hc_ xhi y b N := (Nat.add_assoc _ _ _).symm
    rw [es] at q
    have w : wX_debts_72 post (wX_debts_61 post (nI y) xlt (nI N) (nI R) xrq xwq xpc xls xlc (nI K) xal xrg xkw xac xlv xlp xst xhi xcx xrs xrk xry xro xra xrn xan xaw xmk xmf xmt xmy xmg xmc xms xpn (m + d + 1)) (nI y) (nI b) xlt (nI N) (nI R) xrq xwq xpc xls xlc (nI K) xal xrg xkw xac xlv xlp xst xhi xcx xrs xrk xry xro xra xrn xan xaw xmk xmf xmt xmy xmg xmc xms xpn (0 + N + 1) (nI (M + sg_ (fun b => hc_ xhi y b N) b + hc_ xhi y b 0)) (nI 0) := x_72 h6 hy (by omega) q N 0 0 (by omega)
    rw [nI_0] at w
    rw [wX_debts_61]
    exact br_f (nI_ge (by omega) (by omega)) ⟨_, w⟩
theorem x_61e {post : Int32 → Prop} {y M : Nat} (h6 : N ≤ 6) (hy : y < 4) (h : post (nI (M + sg_ (fun b => hc_ xhi y b N) N))) : ∃ n61, wX_debts_61 post (nI y) xlt (nI N) (nI R) xrq xwq xpc xls xlc (nI K) xal xrg xkw xac xlv xlp xst xhi xcx xrs xrk xry xro xra xrn xan xaw xmk xmf xmt xmy xmg xmc xms xpn n61 (nI M) 0 := by
  have w := x_61 (xlt := xlt) (R := R) (K := K) (xls := xls) (xlc := xlc) (xrq := xrq) (xwq := xwq) (xpc := xpc) (xal := xal) (xrg := xrg) (xkw := xkw) (xac := xac) (xlv := xlv) (xlp := xlp) (xst := xst) (xcx := xcx) (xrs := xrs) (xrk := xrk) (xry := xry) (xro := xro) (xra := xra) (xrn := xrn) (xan := xan) (xaw := xaw) (xmk := xmk) (xmf := xmf) (xmt := xmt) (xmy := xmy) (xmg := xmg) (xmc := xmc) (xms := xms) (xpn := xpn) h6 hy h N 0 0 (by omega)
  rw [show M + sg_ (fun b => hc_ xhi y b N) 0 = M from rfl, nI_0] at w
  exact ⟨_, w⟩
theorem x_14 {post : Int32 → Prop} {y : Nat} (h : ∃ n61, wX_debts_61 post (nI y) xlt (nI N) (nI R) xrq xwq xpc xls xlc (nI K) xal xrg xkw xac xlv xlp xst xhi xcx xrs xrk xry xro xra xrn xan xaw xmk xmf xmt xmy xmg xmc xms xpn n61 (nI (dm_ xmk xmy (nI y) 24)) 0) : ∀ d i m, i + d = 24 → wX_debts_14 post (nI y) xlt (nI N) (nI R) xrq xwq xpc xls xlc (nI K) xal xrg xkw xac xlv xlp xst xhi xcx xrs xrk xry xro xra xrn xan xaw xmk xmf xmt xmy xmg xmc xms xpn (m + d + 1) (nI (dm_ xmk xmy (nI y) i)) (nI i) := by
  intro d
  induction d with
  | zero =>
    intro i m e
    have e6 : i = 24 := by omega
    subst e6
    exact br_t (nI_le (Nat.le_refl 24) (by decide)) h
  | succ d ih =>
    intro i m e
    have q := ih (i + 1) m (by omega)
    have v : vp_in (nI i) 24 := vp_in_nI (by omega) (by decide)
    have k40 : (xmk i = 1 ∨ xmk i = 2) → wX_debts_40 post (wX_debts_14 post (nI y) xlt (nI N) (nI R) xrq xwq xpc xls xlc (nI K) xal xrg xkw xac xlv xlp xst xhi xcx xrs xrk xry xro xra xrn xan xaw xmk xmf xmt xmy xmg xmc xms xpn (m + d + 1)) (nI y) (nI (dm_ xmk xmy (nI y) i)) (nI i) xlt (nI N) (nI R) xrq xwq xpc xls xlc (nI K) xal xrg xkw xac xlv xlp xst xhi xcx xrs xrk xry xro xra xrn xan xaw xmk xmf xmt xmy xmg xmc xms xpn := by
      intro hk
      unfold wX_debts_40
      rw [nI_clamp (n := i) (by omega)]
      refine ⟨v, ?_⟩
      by_cases z : xmy i = nI y
      · exact br_t z (nm_r (dm_t ⟨hk, z⟩) (nm_r (nI_1 i) q))
      · rw [dm_f (fun w => z w.2)] at q
        exact br_f z (nm_r (nI_1 i) q)
    show wX_debts_14 post (nI y) xlt (nI N) (nI R) xrq xwq xpc xls xlc (nI K) xal xrg xkw xac xlv xlp xst xhi xcx xrs xrk xry xro xra xrn xan xaw xmk xmf xmt xmy xmg xmc xms xpn (m + d + 1 + 1) (nI (dm_ xmk xmy (nI y) i)) (nI i)
    rw [wX_debts_14]
    dsimp only
    rw [nI_clamp (n := i) (by omega)]
    refine br_f (nI_ge (b := 24) (by omega) (by decide)) ⟨v, ?_⟩
    by_cases z1 : xmk i = 1
    · exact br_t z1 (k40 (Or.inl z1))
    · refine br_f z1 ⟨v, ?_⟩
      by_cases z2 : xmk i = 2
      · exact br_t z2 (k40 (Or.inr z2))
      · rw [dm_f (fun w => w.1.elim z1 z2)] at q
        exact br_f z2 (nm_r (nI_1 i) q)
end
section
variable {N R K : Nat} {xrq xwq : Int32} {ybi xkw ywn ywm ywv yal xrs xrk xry xro xra xrn xan xmk ymf ymt ymy ymg xmc yme yph ypn : Nat → Int32}
theorem y_73 {post : Int32 → Prop} {J : Int32 → Int32 → Prop} {xhi : Nat → Int64} {y b M : Nat} (h6 : N ≤ 6) (hy : y < 4) (hb : b < N) (hh : ∀ t, t < N → (xhi ((b * 6 + t) * 4 + y) = 0 ↔ ∀ i, i < 40 → ¬ ybi ((24 + (b * 6 + t) * 4 + y) * 40 + i) = 0 → ¬ ybi (234 * 40 + i) = 0)) (h : J (nI (M + hc_ xhi y b N)) (nI (b + 1))) : ∀ d t m, t + d = N → wY_debts_73 post J (nI y) (nI b) (nI K) (nI N) (nI R) xrq xwq ybi xkw ywn ywm ywv yal xrs xrk xry xro xra xrn xan xmk ymf ymt ymy ymg xmc yme yph ypn (m + d + 1) (nI (M + hc_ xhi y b t)) (nI t) := by
  intro d
  induction d with
  | zero =>
    intro t m e
    have e6 : t = N := by omega
    subst e6
    exact br_t (nI_le (Nat.le_refl _) (by omega)) (nm_r (nI_1 b) h)
  | succ d ih =>
    intro t m e
    have q := ih (t + 1) m (by omega)
    have ht := hh t (by omega)
    rw [wY_debts_73]
    dsimp only
    refine br_f (nI_ge (by omega) (by omega)) (y_hrow (y_sub (r := 234) (by omega) (by omega) (fun u => br_f (by decide) ?_) (fun u => br_t rfl ?_)))
    · rw [hc_t (ht.mpr u)] at q
      exact nm_r (nI_1 t) q
    · rw [hc_f (fun w => u (ht.mp w)), ← Nat.add_assoc, ← nI_1] at q
      exact nm_e (nm_r (nI_1 t) q)
theorem y_62 {post : Int32 → Prop} {xhi : Nat → Int64} {y M : Nat} (h6 : N ≤ 6) (hy : y < 4) (hh : ∀ b, b < N → ∀ t, t < N → (xhi ((b * 6 + t) * 4 + y) = 0 ↔ ∀ i, i < 40 → ¬ ybi ((24 + (b * 6 + t) * 4 + y) * 40 + i) = 0 → ¬ ybi (234 * 40 + i) = 0)) (h : post (nI (M + sg_ (fun b => hc_ xhi y b N) N))) : ∀ d b m, b + d = N → wY_debts_62 post (nI y) (nI K) (nI N) (nI R) xrq xwq ybi xkw ywn ywm ywv yal xrs xrk xry xro xra xrn xan xmk ymf ymt ymy ymg xmc yme yph ypn (m + d + 1) (nI (M + sg_ (fun b => hc_ xhi y b N) b)) (nI b) := by
  intro d
  induction d with
  | zero =>
    intro b m e
    have e6 : b = N := by omega
    subst e6
    exact br_t (nI_le (Nat.le_refl _) (by omega)) h
  | succ d ih =>
    intro b m e
    have q := ih (b + 1) m (by omega)
    have es : M + sg_ (fun b => hc_ xhi y b N) (b + 1) = M + sg_ (fun b => hc_ xhi y b N) b + hc_ xhi y b N := (Nat.add_assoc _ _ _).symm
    rw [es] at q
    have w : wY_debts_73 post (wY_debts_62 post (nI y) (nI K) (nI N) (nI R) xrq xwq ybi xkw ywn ywm ywv yal xrs xrk xry xro xra xrn xan xmk ymf ymt ymy ymg xmc yme yph ypn (m + d + 1)) (nI y) (nI b) (nI K) (nI N) (nI R) xrq xwq ybi xkw ywn ywm ywv yal xrs xrk xry xro xra xrn xan xmk ymf ymt ymy ymg xmc yme yph ypn (0 + N + 1) (nI (M + sg_ (fun b => hc_ xhi y b N) b + hc_ xhi y b 0)) (nI 0) := y_73 h6 hy (by omega) (hh b (by omega)) q N 0 0 (by omega)
    rw [nI_0] at w
    rw [wY_debts_62]
    exact br_f (nI_ge (by omega) (by omega)) ⟨_, w⟩
theorem y_62e {post : Int32 → Prop} {xhi : Nat → Int64} {y M : Nat} (h6 : N ≤ 6) (hy : y < 4) (hh : ∀ b, b < N → ∀ t, t < N → (xhi ((b * 6 + t) * 4 + y) = 0 ↔ ∀ i, i < 40 → ¬ ybi ((24 + (b * 6 + t) * 4 + y) * 40 + i) = 0 → ¬ ybi (234 * 40 + i) = 0)) (h : post (nI (M + sg_ (fun b => hc_ xhi y b N) N))) : ∃ n62, wY_debts_62 post (nI y) (nI K) (nI N) (nI R) xrq xwq ybi xkw ywn ywm ywv yal xrs xrk xry xro xra xrn xan xmk ymf ymt ymy ymg xmc yme yph ypn n62 (nI M) 0 := by
  have w := y_62 (R := R) (K := K) (xrq := xrq) (xwq := xwq) (xkw := xkw) (ywn := ywn) (ywm := ywm) (ywv := ywv) (yal := yal) (xrs := xrs) (xrk := xrk) (xry := xry) (xro := xro) (xra := xra) (xrn := xrn) (xan := xan) (xmk := xmk) (ymf := ymf) (ymt := ymt) (ymy := ymy) (ymg := ymg) (xmc := xmc) (yme := yme) (yph := yph) (ypn := ypn) h6 hy hh h N 0 0 (by omega)
  rw [show M + sg_ (fun b => hc_ xhi y b N) 0 = M from rfl, nI_0] at w
  exact ⟨_, w⟩
theorem y_15 {post : Int32 → Prop} {xmy : Nat → Int32} {y : Nat} (hm : ∀ i, i < 24 → ¬ xmk i = 0 → ymy i = xmy i) (h : ∃ n62, wY_debts_62 post (nI y) (nI K) (nI N) (nI R) xrq xwq ybi xkw ywn ywm ywv yal xrs xrk xry xro xra xrn xan xmk ymf ymt ymy ymg xmc yme yph ypn n62 (nI (dm_ xmk xmy (nI y) 24)) 0) : ∀ d i m, i + d = 24 → wY_debts_15 post (nI y) (nI K) (nI N) (nI R) xrq xwq ybi xkw ywn ywm ywv yal xrs xrk xry xro xra xrn xan xmk ymf ymt ymy ymg xmc yme yph ypn (m + d + 1) (nI (dm_ xmk xmy (nI y) i)) (nI i) := by
  intro d
  induction d with
  | zero =>
    intro i m e
    have e6 : i = 24 := by omega
    subst e6
    exact br_t (nI_le (Nat.le_refl 24) (by decide)) h
  | succ d ih =>
    intro i m e
    have q := ih (i + 1) m (by omega)
    have v : vp_in (nI i) 24 := vp_in_nI (by omega) (by decide)
    have k41 : (xmk i = 1 ∨ xmk i = 2) → wY_debts_41 post (wY_debts_15 post (nI y) (nI K) (nI N) (nI R) xrq xwq ybi xkw ywn ywm ywv yal xrs xrk xry xro xra xrn xan xmk ymf ymt ymy ymg xmc yme yph ypn (m + d + 1)) (nI y) (nI (dm_ xmk xmy (nI y) i)) (nI i) (nI K) (nI N) (nI R) xrq xwq ybi xkw ywn ywm ywv yal xrs xrk xry xro xra xrn xan xmk ymf ymt ymy ymg xmc yme yph ypn := by
      intro hk
      have e2 := hm i (by omega) (fun w => by
        rw [w] at hk
        rcases hk with hk | hk
        · exact absurd hk (by decide)
        · exact absurd hk (by decide))
      unfold wY_debts_41
      rw [nI_clamp (n := i) (by omega), e2]
      refine ⟨v, ?_⟩
      by_cases z : xmy i = nI y
      · exact br_t z (nm_r (dm_t ⟨hk, z⟩) (nm_r (nI_1 i) q))
      · rw [dm_f (fun w => z w.2)] at q
        exact br_f z (nm_r (nI_1 i) q)
    show wY_debts_15 post (nI y) (nI K) (nI N) (nI R) xrq xwq ybi xkw ywn ywm ywv yal xrs xrk xry xro xra xrn xan xmk ymf ymt ymy ymg xmc yme yph ypn (m + d + 1 + 1) (nI (dm_ xmk xmy (nI y) i)) (nI i)
    rw [wY_debts_15]
    dsimp only
    rw [nI_clamp (n := i) (by omega)]
    refine br_f (nI_ge (b := 24) (by omega) (by decide)) ⟨v, ?_⟩
    by_cases z1 : xmk i = 1
    · exact br_t z1 (k41 (Or.inl z1))
    · refine br_f z1 ⟨v, ?_⟩
      by_cases z2 : xmk i = 2
      · exact br_t z2 (k41 (Or.inr z2))
      · rw [dm_f (fun w => w.1.elim z1 z2)] at q
        exact br_f z2 (nm_r (nI_1 i) q)
end
section
variable {N R K : Nat} {xlt xls xlc : Int64} {xrq xwq xpc : Int32} {xal xrg xkw xac xlv xrs xrk xry xro xra xrn xan xmk xmf xmt xmy xmg xmc xpn ybi ywn ywm ywv yal ymf ymt ymy ymg yme yph ypn : Nat → Int32} {xlp xst xhi xcx xaw xms : Nat → Int64}
variable {ex : Nat} {C : Nat → Nat} {D : Nat → Nat → Nat}
variable {k : Nat}
theorem m_debts (q : QR 4 N R K C D xls xlc xal xrg xkw xac xlv xlp xst xhi xcx xrs xry xro xan xaw xmk xmf xmt xmy xmg xmc xms ybi ywn ywm ywv yal ymf ymt ymy ymg) (v1 : Int32) : wpX_debts (fun r => wpY_debts (fun r' => r' = r ∧ i_Rel k (xlt, nI N, nI R, xrq, xwq, xpc, xls, xlc, nI K, xal, xrg, xkw, xac, xlv, xlp, xst, xhi, xcx, xrs, xrk, xry, xro, xra, xrn, xan, xaw, xmk, xmf, xmt, xmy, xmg, xmc, xms, xpn) (nI K, nI N, nI R, xrq, xwq, ybi, xkw, ywn, ywm, ywv, yal, xrs, xrk, xry, xro, xra, xrn, xan, xmk, ymf, ymt, ymy, ymg, xmc, yme, yph, ypn)) (nI K, nI N, nI R, xrq, xwq, ybi, xkw, ywn, ywm, ywv, yal, xrs, xrk, xry, xro, xra, xrn, xan, xmk, ymf, ymt, ymy, ymg, xmc, yme, yph, ypn) v1) (xlt, nI N, nI R, xrq, xwq, xpc, xls, xlc, nI K, xal, xrg, xkw, xac, xlv, xlp, xst, xhi, xcx, xrs, xrk, xry, xro, xra, xrn, xan, xaw, xmk, xmf, xmt, xmy, xmg, xmc, xms, xpn) v1 := by
  have h6 := q.1.2.1
  unfold wpX_debts wpY_debts
  dsimp only
  rcases rng v1 (n := 4) (by decide) with ⟨y, hy, rfl⟩ | hx
  · have he : ∀ i, i < 40 → ybi (234 * 40 + i) = 0 := q.2.2.2.2.1.2
    have hh : ∀ b, b < N → ∀ t, t < N → (xhi ((b * 6 + t) * 4 + y) = 0 ↔ ∀ i, i < 40 → ¬ ybi ((24 + (b * 6 + t) * 4 + y) * 40 + i) = 0 → ¬ ybi (234 * 40 + i) = 0) := fun b hb t ht => by
      rw [rs_z (q_hi q hy (a := b) (t := t) (by omega) (by omega)) (q_cx q hy)]
      exact ⟨fun w i hi u => absurd u (w i hi), fun w i hi u => w i hi u (he i hi)⟩
    have hm : ∀ i, i < 24 → ¬ xmk i = 0 → ymy i = xmy i := fun i hi z => by
      obtain ⟨k2, ff, tt, yy, a1, a2, a3, a4, a5, a6, a7, a8, a9, a10, a11, _⟩ := (q.2.2.2.2.2.2.1 i hi).2 z
      rw [a10, a11]
    refine x_isKey_t hy (br_f (by decide) ⟨_, x_14 (x_61e h6 hy ?_) 24 0 0 rfl⟩)
    exact y_out_t (L := 4) hy (by decide) (br_t rfl ⟨_, y_15 hm (y_62e h6 hy hh ⟨rfl, zz_in q⟩) 24 0 0 rfl⟩)
  · exact x_isKey_f hx (br_t rfl (y_out_f (L := 4) hx (br_f (by decide) ⟨rfl, zz_in q⟩)))
end
end
section
/-! lose -/
section
variable {N R K : Nat} {xlt xls xlc : Int64} {xrq xwq xpc : Int32} {xal xrg xkw xac xlv xrs xrk xry xro xra xrn xan xmk xmf xmt xmy xmg xmc xpn ybi ywn ywm ywv yal ymf ymt ymy ymg yme yph ypn : Nat → Int32} {xlp xst xhi xcx xaw xms : Nat → Int64}
variable {ex : Nat} {C : Nat → Nat} {D : Nat → Nat → Nat}
variable {k : Nat}
theorem k_l174 {s : Nat} (h : QR 4 N R K C D xls xlc xal xrg xkw xac xlv xlp xst xhi xcx xrs xry xro xan xaw xmk xmf xmt xmy xmg xmc xms ybi ywn ywm ywv yal ymf ymt ymy ymg) (hs : s < 24) (hk : ¬ xmk s = 0) : ∃ (xst' xms' xcx' xaw' : Nat → Int64) (xrs' xan' xmk' xmf' xmt' xmy' xmg' xmc' ybi' ymf' ymt' ymy' ymg' : Nat → Int32), QR 4 N R K C D xls xlc xal xrg xkw xac xlv xlp xst' xhi xcx' xrs' xry xro xan' xaw' xmk' xmf' xmt' xmy' xmg' xmc' xms' ybi' ywn ywm ywv yal ymf' ymt' ymy' ymg' ∧ (∀ post : Int32 → SX → Prop, post 1 (xlt, nI N, nI R, xrq, xwq, xpc, xls, xlc, nI K, xal, xrg, xkw, xac, xlv, xlp, xst', xhi, xcx', xrs', xrk, xry, xro, xra, xrn, xan', xaw', xmk', xmf', xmt', xmy', xmg', xmc', xms', xpn) → wX_lose_174 post (nI s) xlt (nI N) (nI R) xrq xwq xpc xls xlc (nI K) xal xrg xkw xac xlv xlp xst xhi xcx xrs xrk xry xro xra xrn xan xaw xmk xmf xmt xmy xmg xmc xms xpn) ∧ (∀ post : Int32 → SY → Prop, post 1 (nI K, nI N, nI R, xrq, xwq, ybi', xkw, ywn, ywm, ywv, yal, xrs', xrk, xry, xro, xra, xrn, xan', xmk', ymf', ymt', ymy', ymg', xmc', yme, yph, ypn) → wY_lose_187 post (nI s) (xmc s) (nI K) (nI N) (nI R) xrq xwq ybi xkw ywn ywm ywv yal xrs xrk xry xro xra xrn xan xmk ymf ymt ymy ymg xmc yme yph ypn) := by
  have v : vp_in (nI s) 24 := vp_in_nI hs (by decide)
  obtain ⟨kk, ff, tt, yy, a1, a2, a3, a4, a5, a6, a7, a8, a9, a10, a11, a12, a13, a14, a15⟩ := (h.2.2.2.2.2.2.1 s hs).2 hk
  have hf := q_free (s := s) h
  rcases a14 with w | ⟨cc, w1, w2, w3, w4⟩
  · refine ⟨xst, vp_updL xms s 0, xcx, xaw, xrs, xan, upd xmk s 0, upd xmf s (-1), upd xmt s (-1), upd xmy s (-1), upd xmg s (-1), upd xmc s (-1), ybi, ymf, ymt, ymy, ymg, hf, fun post hp => ?_, fun post hp => ?_⟩
    · unfold wX_lose_174
      rw [nI_clamp (n := s) (by omega), w]
      exact ⟨v, nm_e (x_free hs (br_t neg_1 hp))⟩
    · unfold wY_lose_187
      rw [w]
      exact y_rel hs (br_t rfl hp)
  · obtain ⟨xst', xms', xcx', xaw', xrs', xan', xmk', xmf', xmt', xmy', xmg', xmc', ybi', ymf', ymt', ymy', ymg', hQ, hX, hY⟩ := k_rule (xlt := xlt) (xrq := xrq) (xwq := xwq) (xpc := xpc) (xrk := xrk) (xra := xra) (xrn := xrn) (xpn := xpn) hf w1 w3
    refine ⟨xst', xms', xcx', xaw', xrs', xan', xmk', xmf', xmt', xmy', xmg', xmc', ybi', ymf', ymt', ymy', ymg', hQ, fun post hp => ?_, fun post hp => ?_⟩
    · unfold wX_lose_174
      rw [nI_clamp (n := s) (by omega), w2]
      exact ⟨v, nm_e (x_free hs (br_f (nI_pos (by omega)) (hX _ hp)))⟩
    · unfold wY_lose_187
      rw [w2]
      exact y_rel hs (br_f (nI_ne1 (by omega)) (hY _ _ _ _ hp))
theorem k_92 {s a b kk : Nat} (h : QR 4 N R K C D xls xlc xal xrg xkw xac xlv xlp xst xhi xcx xrs xry xro xan xaw xmk xmf xmt xmy xmg xmc xms ybi ywn ywm ywv yal ymf ymt ymy ymg) (hs : s < 24) (hk : xmk s = nI kk) (hk0 : 0 < kk) (hk10 : kk < 10) (ha : a < N) (hb : b < N) : ∃ (r : Int32) (xhi' : Nat → Int64) (xst' xms' xcx' xaw' : Nat → Int64) (xrs' xan' xmk' xmf' xmt' xmy' xmg' xmc' ybi' ymf' ymt' ymy' ymg' : Nat → Int32), QR 4 N R K C D xls xlc xal xrg xkw xac xlv xlp xst' xhi' xcx' xrs' xry xro xan' xaw' xmk' xmf' xmt' xmy' xmg' xmc' xms' ybi' ywn ywm ywv yal ymf' ymt' ymy' ymg' ∧ (∀ post : Int32 → SX → Prop, post r (xlt, nI N, nI R, xrq, xwq, xpc, xls, xlc, nI K, xal, xrg, xkw, xac, xlv, xlp, xst', xhi', xcx', xrs', xrk, xry, xro, xra, xrn, xan', xaw', xmk', xmf', xmt', xmy', xmg', xmc', xms', xpn) → wX_lose_92 post (nI s) (nI kk) (nI a) (nI b) xlt (nI N) (nI R) xrq xwq xpc xls xlc (nI K) xal xrg xkw xac xlv xlp xst xhi xcx xrs xrk xry xro xra xrn xan xaw xmk xmf xmt xmy xmg xmc xms xpn) ∧ (∀ post : Int32 → SY → Prop, post r (nI K, nI N, nI R, xrq, xwq, ybi', xkw, ywn, ywm, ywv, yal, xrs', xrk, xry, xro, xra, xrn, xan', xmk', ymf', ymt', ymy', ymg', xmc', yme, yph, ypn) → wY_lose_94 post (nI s) (nI kk) (nI a) (nI b) (nI K) (nI N) (nI R) xrq xwq ybi xkw ywn ywm ywv yal xrs xrk xry xro xra xrn xan xmk ymf ymt ymy ymg xmc yme yph ypn) := by
  have h6 := h.1.2.1
  have v : vp_in (nI s) 24 := vp_in_nI hs (by decide)
  have va : vp_in (nI a) 6 := vp_in_nI (by omega) (by decide)
  have e184 : 184 + nI s = nI (184 + s) := nI_add 184 s
  have kn0 : ¬ xmk s = 0 := by rw [hk]; exact nI_ne0 hk0 (by omega)
  obtain ⟨k2, ff, tt, yy, a1, a2, a3, a4, a5, a6, a7, a8, a9, a10, a11, a12, a13, a14, a15⟩ := (h.2.2.2.2.2.2.1 s hs).2 kn0
  have ek : k2 = kk := by
    rw [hk] at a2
    exact ((nI_eq (by omega) (by omega)).mp a2).symm
  subst ek
  have ea := h.2.1 a ha
  by_cases z : xal a = 0
  · refine ⟨-3, xhi, xst, xms, xcx, xaw, xrs, xan, xmk, xmf, xmt, xmy, xmg, xmc, ybi, ymf, ymt, ymy, ymg, h, fun post hp => ?_, fun post hp => ?_⟩
    · unfold wX_lose_92
      rw [nI_clamp (n := a) (by omega)]
      exact ⟨va, br_t z hp⟩
    · unfold wY_lose_94
      rw [nI_clamp (n := a) (by omega)]
      exact ⟨v, nm_e ⟨va, br_t (ea.symm.trans z) hp⟩⟩
  · have z' : ¬ yal a = 0 := fun w => z (ea.trans w)
    by_cases c13 : k2 = 1 ∨ k2 = 3
    · have hj := q_jhi (a := a) (t := b) (r := 184 + s) h (by omega) (by omega) a5 a15
      obtain ⟨xst', xms', xcx', xaw', xrs', xan', xmk', xmf', xmt', xmy', xmg', xmc', ybi', ymf', ymt', ymy', ymg', hQ, hX, hY⟩ := k_l174 (xlt := xlt) (xrq := xrq) (xwq := xwq) (xpc := xpc) (xrk := xrk) (xra := xra) (xrn := xrn) (xpn := xpn) (yme := yme) (yph := yph) (ypn := ypn) (s := s) hj hs kn0
      refine ⟨1, _, xst', xms', xcx', xaw', xrs', xan', xmk', xmf', xmt', xmy', xmg', xmc', ybi', ymf', ymt', ymy', ymg', hQ, fun post hp => ?_, fun post hp => ?_⟩
      · have f117 : wX_lose_117 post (nI s) (nI a) (nI b) xlt (nI N) (nI R) xrq xwq xpc xls xlc (nI K) xal xrg xkw xac xlv xlp xst xhi xcx xrs xrk xry xro xra xrn xan xaw xmk xmf xmt xmy xmg xmc xms xpn := by
          unfold wX_lose_117
          rw [nI_clamp (n := s) (by omega), a10]
          exact ⟨v, v, x_jhi (by omega) (hX post hp)⟩
        unfold wX_lose_92
        rw [nI_clamp (n := a) (by omega)]
        exact ⟨va, br_f z (pk_eq k2 1 (fun _ => f117) (fun e1 => pk_eq k2 3 (fun _ => f117) (fun e3 => absurd c13 (by omega))))⟩
      · have f137 : wY_lose_137 post (nI s) (nI k2) (nI a) (nI b) (xmc s) (nI K) (nI N) (nI R) xrq xwq ybi xkw ywn ywm ywv yal xrs xrk xry xro xra xrn xan xmk ymf ymt ymy ymg xmc yme yph ypn := by
          have f158 : wY_lose_158 post (nI s) (nI a) (xmc s) (nI b) (nI K) (nI N) (nI R) xrq xwq ybi xkw ywn ywm ywv yal xrs xrk xry xro xra xrn xan xmk ymf ymt ymy ymg xmc yme yph ypn := by
            unfold wY_lose_158
            rw [nI_clamp (n := s) (by omega), a11, e184]
            exact ⟨v, y_hrow (y_join (by omega) (by omega) (hY post hp))⟩
          exact pk_eq k2 1 (fun _ => f158) (fun e1 => pk_eq k2 3 (fun _ => f158) (fun e3 => absurd c13 (by omega)))
        unfold wY_lose_94
        rw [nI_clamp (n := a) (by omega), nI_clamp (n := s) (by omega)]
        exact ⟨v, nm_e ⟨va, br_f z' (pk_eq k2 1 (fun _ => f137) (fun e1 => pk_eq k2 3 (fun _ => f137) (fun e3 => absurd c13 (by omega))))⟩⟩
    · by_cases c24 : k2 = 2 ∨ k2 = 4
      · obtain ⟨gg, g1, g2⟩ := a13 c24
        have hj := q_jhi (a := a) (t := gg) (r := 184 + s) h (by omega) (by omega) a5 a15
        obtain ⟨xst', xms', xcx', xaw', xrs', xan', xmk', xmf', xmt', xmy', xmg', xmc', ybi', ymf', ymt', ymy', ymg', hQ, hX, hY⟩ := k_l174 (xlt := xlt) (xrq := xrq) (xwq := xwq) (xpc := xpc) (xrk := xrk) (xra := xra) (xrn := xrn) (xpn := xpn) (yme := yme) (yph := yph) (ypn := ypn) (s := s) hj hs kn0
        refine ⟨1, _, xst', xms', xcx', xaw', xrs', xan', xmk', xmf', xmt', xmy', xmg', xmc', ybi', ymf', ymt', ymy', ymg', hQ, fun post hp => ?_, fun post hp => ?_⟩
        · have f150 : wX_lose_150 post (nI s) (nI a) xlt (nI N) (nI R) xrq xwq xpc xls xlc (nI K) xal xrg xkw xac xlv xlp xst xhi xcx xrs xrk xry xro xra xrn xan xaw xmk xmf xmt xmy xmg xmc xms xpn := by
            unfold wX_lose_150
            rw [nI_clamp (n := s) (by omega), a10, g2]
            exact ⟨v, v, v, x_jhi (by omega) (hX post hp)⟩
          unfold wX_lose_92
          rw [nI_clamp (n := a) (by omega)]
          exact ⟨va, br_f z (pk_eq k2 1 (fun e => absurd (Or.inl e) c13) (fun e1 => pk_eq k2 3 (fun e => absurd (Or.inr e) c13) (fun e3 => pk_eq k2 2 (fun _ => f150) (fun e2 => pk_eq k2 4 (fun _ => f150) (fun e4 => absurd c24 (by omega))))))⟩
        · have f137 : wY_lose_137 post (nI s) (nI k2) (nI a) (nI b) (xmc s) (nI K) (nI N) (nI R) xrq xwq ybi xkw ywn ywm ywv yal xrs xrk xry xro xra xrn xan xmk ymf ymt ymy ymg xmc yme yph ypn := by
            have f158 : wY_lose_158 post (nI s) (nI a) (xmc s) (nI gg) (nI K) (nI N) (nI R) xrq xwq ybi xkw ywn ywm ywv yal xrs xrk xry xro xra xrn xan xmk ymf ymt ymy ymg xmc yme yph ypn := by
              unfold wY_lose_158
              rw [nI_clamp (n := s) (by omega), a11, e184]
              exact ⟨v, y_hrow (y_join (by omega) (by omega) (hY post hp))⟩
            unfold wY_lose_137
            rw [nI_clamp (n := s) (by omega), a12, g2]
            exact pk_eq k2 1 (fun e => absurd (Or.inl e) c13) (fun e1 => pk_eq k2 3 (fun e => absurd (Or.inr e) c13) (fun e3 => ⟨v, f158⟩))
          unfold wY_lose_94
          rw [nI_clamp (n := a) (by omega), nI_clamp (n := s) (by omega)]
          exact ⟨v, nm_e ⟨va, br_f z' (pk_eq k2 1 (fun e => absurd (Or.inl e) c13) (fun e1 => pk_eq k2 3 (fun e => absurd (Or.inr e) c13) (fun e3 => pk_eq k2 2 (fun _ => f137) (fun e2 => pk_eq k2 4 (fun _ => f137) (fun e4 => absurd c24 (by omega))))))⟩⟩
      · obtain ⟨xst', xms', xcx', xaw', xrs', xan', xmk', xmf', xmt', xmy', xmg', xmc', ybi', ymf', ymt', ymy', ymg', hQ, hX, hY⟩ := k_l174 (xlt := xlt) (xrq := xrq) (xwq := xwq) (xpc := xpc) (xrk := xrk) (xra := xra) (xrn := xrn) (xpn := xpn) (yme := yme) (yph := yph) (ypn := ypn) (s := s) h hs kn0
        refine ⟨1, _, xst', xms', xcx', xaw', xrs', xan', xmk', xmf', xmt', xmy', xmg', xmc', ybi', ymf', ymt', ymy', ymg', hQ, fun post hp => ?_, fun post hp => ?_⟩
        · unfold wX_lose_92
          rw [nI_clamp (n := a) (by omega)]
          exact ⟨va, br_f z (pk_eq k2 1 (fun e => absurd (Or.inl e) c13) (fun e1 => pk_eq k2 3 (fun e => absurd (Or.inr e) c13) (fun e3 => pk_eq k2 2 (fun e => absurd (Or.inl e) c24) (fun e2 => pk_eq k2 4 (fun e => absurd (Or.inr e) c24) (fun e4 => hX post hp)))))⟩
        · unfold wY_lose_94
          rw [nI_clamp (n := a) (by omega), nI_clamp (n := s) (by omega)]
          exact ⟨v, nm_e ⟨va, br_f z' (pk_eq k2 1 (fun e => absurd (Or.inl e) c13) (fun e1 => pk_eq k2 3 (fun e => absurd (Or.inr e) c13) (fun e3 => pk_eq k2 2 (fun e => absurd (Or.inl e) c24) (fun e2 => pk_eq k2 4 (fun e => absurd (Or.inr e) c24) (fun e4 => hY post hp)))))⟩⟩
theorem x_51f {post : Int32 → SX → Prop} {s : Nat} {kk : Int32} (hs : s < 24) (h : wX_lose_92 post (nI s) kk (xmf s) (xmt s) xlt (nI N) (nI R) xrq xwq xpc xls xlc (nI K) xal xrg xkw xac xlv xlp xst xhi xcx xrs xrk xry xro xra xrn xan xaw xmk xmf xmt xmy xmg xmc xms xpn) : wX_lose_51 post (nI s) kk 0 xlt (nI N) (nI R) xrq xwq xpc xls xlc (nI K) xal xrg xkw xac xlv xlp xst xhi xcx xrs xrk xry xro xra xrn xan xaw xmk xmf xmt xmy xmg xmc xms xpn := by
  have v : vp_in (nI s) 24 := vp_in_nI hs (by decide)
  unfold wX_lose_51 wX_lose_71
  rw [nI_clamp (n := s) (by omega)]
  exact br_t rfl ⟨v, br_t rfl ⟨v, h⟩⟩
theorem x_51b {post : Int32 → SX → Prop} {s : Nat} {kk : Int32} (hs : s < 24) (h : wX_lose_92 post (nI s) kk (xmt s) (xmf s) xlt (nI N) (nI R) xrq xwq xpc xls xlc (nI K) xal xrg xkw xac xlv xlp xst xhi xcx xrs xrk xry xro xra xrn xan xaw xmk xmf xmt xmy xmg xmc xms xpn) : wX_lose_46 post (nI s) kk xlt (nI N) (nI R) xrq xwq xpc xls xlc (nI K) xal xrg xkw xac xlv xlp xst xhi xcx xrs xrk xry xro xra xrn xan xaw xmk xmf xmt xmy xmg xmc xms xpn := by
  have v : vp_in (nI s) 24 := vp_in_nI hs (by decide)
  unfold wX_lose_46 wX_lose_51 wX_lose_71
  rw [nI_clamp (n := s) (by omega)]
  exact br_f (by decide) ⟨v, br_f (by decide) ⟨v, h⟩⟩
theorem y_53f {post : Int32 → SY → Prop} {s : Nat} {kk : Int32} (hs : s < 24) (h : wY_lose_94 post (nI s) kk (ymf s) (ymt s) (nI K) (nI N) (nI R) xrq xwq ybi xkw ywn ywm ywv yal xrs xrk xry xro xra xrn xan xmk ymf ymt ymy ymg xmc yme yph ypn) : wY_lose_53 post (nI s) kk 0 (nI K) (nI N) (nI R) xrq xwq ybi xkw ywn ywm ywv yal xrs xrk xry xro xra xrn xan xmk ymf ymt ymy ymg xmc yme yph ypn := by
  have v : vp_in (nI s) 24 := vp_in_nI hs (by decide)
  unfold wY_lose_53 wY_lose_73
  rw [nI_clamp (n := s) (by omega)]
  exact br_t rfl ⟨v, br_t rfl ⟨v, h⟩⟩
theorem y_53b {post : Int32 → SY → Prop} {s : Nat} {kk : Int32} (hs : s < 24) (h : wY_lose_94 post (nI s) kk (ymt s) (ymf s) (nI K) (nI N) (nI R) xrq xwq ybi xkw ywn ywm ywv yal xrs xrk xry xro xra xrn xan xmk ymf ymt ymy ymg xmc yme yph ypn) : wY_lose_48 post (nI s) kk (nI K) (nI N) (nI R) xrq xwq ybi xkw ywn ywm ywv yal xrs xrk xry xro xra xrn xan xmk ymf ymt ymy ymg xmc yme yph ypn := by
  have v : vp_in (nI s) 24 := vp_in_nI hs (by decide)
  unfold wY_lose_48 wY_lose_53 wY_lose_73
  rw [nI_clamp (n := s) (by omega)]
  exact br_f (by decide) ⟨v, br_f (by decide) ⟨v, h⟩⟩
theorem m_lose (q : QR 4 N R K C D xls xlc xal xrg xkw xac xlv xlp xst xhi xcx xrs xry xro xan xaw xmk xmf xmt xmy xmg xmc xms ybi ywn ywm ywv yal ymf ymt ymy ymg) (v1 : Int32) : wpX_lose (fun r u' => wpY_lose (fun r' v' => r' = r ∧ i_Rel k u' v') (nI K, nI N, nI R, xrq, xwq, ybi, xkw, ywn, ywm, ywv, yal, xrs, xrk, xry, xro, xra, xrn, xan, xmk, ymf, ymt, ymy, ymg, xmc, yme, yph, ypn) v1) (xlt, nI N, nI R, xrq, xwq, xpc, xls, xlc, nI K, xal, xrg, xkw, xac, xlv, xlp, xst, xhi, xcx, xrs, xrk, xry, xro, xra, xrn, xan, xaw, xmk, xmf, xmt, xmy, xmg, xmc, xms, xpn) v1 := by
  have h6 := q.1.2.1
  unfold wpX_lose wpY_lose
  dsimp only
  rcases rng v1 (n := 24) (by decide) with ⟨s, hs, rfl⟩ | hx
  · have v : vp_in (nI s) 24 := vp_in_nI hs (by decide)
    rw [nI_clamp (n := s) (by omega)]
    refine x_isSlot_t hs (br_f (by decide) ⟨v, nm_e ?_⟩)
    by_cases z : xmk s = 0
    · exact br_t z (y_out_t (L := 24) hs (by decide) (br_t rfl ⟨v, nm_e (br_t z ⟨rfl, zz_in q⟩)⟩))
    · obtain ⟨kk, ff, tt, yy, a1, a2, a3, a4, a5, a6, a7, a8, a9, a10, a11, a12, a13, a14, a15⟩ := (q.2.2.2.2.2.2.1 s hs).2 z
      have k0 : 0 < kk := by
        rcases Nat.eq_zero_or_pos kk with w | w
        · rw [w, nI_0] at a2; exact absurd a2 z
        · exact w
      refine br_f z ?_
      rw [a2]
      by_cases cb : kk = 3 ∨ kk = 4 ∨ kk = 6 ∨ kk = 9
      · obtain ⟨r, xhi', xst', xms', xcx', xaw', xrs', xan', xmk', xmf', xmt', xmy', xmg', xmc', ybi', ymf', ymt', ymy', ymg', hQ, hX, hY⟩ := k_92 (xlt := xlt) (xrq := xrq) (xwq := xwq) (xpc := xpc) (xrk := xrk) (xra := xra) (xrn := xrn) (xpn := xpn) (yme := yme) (yph := yph) (ypn := ypn) q hs a2 k0 a1 a4 a3
        have fX : ∀ post : Int32 → SX → Prop, post r (xlt, nI N, nI R, xrq, xwq, xpc, xls, xlc, nI K, xal, xrg, xkw, xac, xlv, xlp, xst', xhi', xcx', xrs', xrk, xry, xro, xra, xrn, xan', xaw', xmk', xmf', xmt', xmy', xmg', xmc', xms', xpn) → wX_lose_46 post (nI s) (nI kk) xlt (nI N) (nI R) xrq xwq xpc xls xlc (nI K) xal xrg xkw xac xlv xlp xst xhi xcx xrs xrk xry xro xra xrn xan xaw xmk xmf xmt xmy xmg xmc xms xpn := fun post hp => x_51b hs (by rw [a6, a8]; exact hX post hp)
        have fY : ∀ post : Int32 → SY → Prop, post r (nI K, nI N, nI R, xrq, xwq, ybi', xkw, ywn, ywm, ywv, yal, xrs', xrk, xry, xro, xra, xrn, xan', xmk', ymf', ymt', ymy', ymg', xmc', yme, yph, ypn) → wY_lose_48 post (nI s) (nI kk) (nI K) (nI N) (nI R) xrq xwq ybi xkw ywn ywm ywv yal xrs xrk xry xro xra xrn xan xmk ymf ymt ymy ymg xmc yme yph ypn := fun post hp => y_53b hs (by rw [a7, a9]; exact hY post hp)
        have yy : wpY_lose (fun r' v' => r' = r ∧ i_Rel k (xlt, nI N, nI R, xrq, xwq, xpc, xls, xlc, nI K, xal, xrg, xkw, xac, xlv, xlp, xst', xhi', xcx', xrs', xrk, xry, xro, xra, xrn, xan', xaw', xmk', xmf', xmt', xmy', xmg', xmc', xms', xpn) v') (nI K, nI N, nI R, xrq, xwq, ybi, xkw, ywn, ywm, ywv, yal, xrs, xrk, xry, xro, xra, xrn, xan, xmk, ymf, ymt, ymy, ymg, xmc, yme, yph, ypn) (nI s) := by
          unfold wpY_lose
          dsimp only
          rw [nI_clamp (n := s) (by omega), a2]
          exact y_out_t (L := 24) hs (by decide) (br_t rfl ⟨v, nm_e (br_f (nI_ne0 k0 (by omega)) (pk_eq kk 3 (fun _ => fY _ ⟨rfl, zz_in hQ⟩) (fun e3 => pk_eq kk 4 (fun _ => fY _ ⟨rfl, zz_in hQ⟩) (fun e4 => pk_eq kk 6 (fun _ => fY _ ⟨rfl, zz_in hQ⟩) (fun e6 => pk_eq kk 9 (fun _ => fY _ ⟨rfl, zz_in hQ⟩) (fun e9 => absurd cb (by omega)))))))⟩)
        unfold wpY_lose at yy
        dsimp only at yy
        rw [nI_clamp (n := s) (by omega), a2] at yy
        exact pk_eq kk 3 (fun _ => fX _ yy) (fun e3 => pk_eq kk 4 (fun _ => fX _ yy) (fun e4 => pk_eq kk 6 (fun _ => fX _ yy) (fun e6 => pk_eq kk 9 (fun _ => fX _ yy) (fun e9 => absurd cb (by omega)))))
      · obtain ⟨r, xhi', xst', xms', xcx', xaw', xrs', xan', xmk', xmf', xmt', xmy', xmg', xmc', ybi', ymf', ymt', ymy', ymg', hQ, hX, hY⟩ := k_92 (xlt := xlt) (xrq := xrq) (xwq := xwq) (xpc := xpc) (xrk := xrk) (xra := xra) (xrn := xrn) (xpn := xpn) (yme := yme) (yph := yph) (ypn := ypn) q hs a2 k0 a1 a3 a4
        have fX : ∀ post : Int32 → SX → Prop, post r (xlt, nI N, nI R, xrq, xwq, xpc, xls, xlc, nI K, xal, xrg, xkw, xac, xlv, xlp, xst', xhi', xcx', xrs', xrk, xry, xro, xra, xrn, xan', xaw', xmk', xmf', xmt', xmy', xmg', xmc', xms', xpn) → wX_lose_51 post (nI s) (nI kk) 0 xlt (nI N) (nI R) xrq xwq xpc xls xlc (nI K) xal xrg xkw xac xlv xlp xst xhi xcx xrs xrk xry xro xra xrn xan xaw xmk xmf xmt xmy xmg xmc xms xpn := fun post hp => x_51f hs (by rw [a6, a8]; exact hX post hp)
        have fY : ∀ post : Int32 → SY → Prop, post r (nI K, nI N, nI R, xrq, xwq, ybi', xkw, ywn, ywm, ywv, yal, xrs', xrk, xry, xro, xra, xrn, xan', xmk', ymf', ymt', ymy', ymg', xmc', yme, yph, ypn) → wY_lose_53 post (nI s) (nI kk) 0 (nI K) (nI N) (nI R) xrq xwq ybi xkw ywn ywm ywv yal xrs xrk xry xro xra xrn xan xmk ymf ymt ymy ymg xmc yme yph ypn := fun post hp => y_53f hs (by rw [a7, a9]; exact hY post hp)
        have yy : wpY_lose (fun r' v' => r' = r ∧ i_Rel k (xlt, nI N, nI R, xrq, xwq, xpc, xls, xlc, nI K, xal, xrg, xkw, xac, xlv, xlp, xst', xhi', xcx', xrs', xrk, xry, xro, xra, xrn, xan', xaw', xmk', xmf', xmt', xmy', xmg', xmc', xms', xpn) v') (nI K, nI N, nI R, xrq, xwq, ybi, xkw, ywn, ywm, ywv, yal, xrs, xrk, xry, xro, xra, xrn, xan, xmk, ymf, ymt, ymy, ymg, xmc, yme, yph, ypn) (nI s) := by
          unfold wpY_lose
          dsimp only
          rw [nI_clamp (n := s) (by omega), a2]
          exact y_out_t (L := 24) hs (by decide) (br_t rfl ⟨v, nm_e (br_f (nI_ne0 k0 (by omega)) (pk_eq kk 3 (fun e => absurd (by omega) cb) (fun e3 => pk_eq kk 4 (fun e => absurd (by omega) cb) (fun e4 => pk_eq kk 6 (fun e => absurd (by omega) cb) (fun e6 => pk_eq kk 9 (fun e => absurd (by omega) cb) (fun e9 => fY _ ⟨rfl, zz_in hQ⟩))))))⟩)
        unfold wpY_lose at yy
        dsimp only at yy
        rw [nI_clamp (n := s) (by omega), a2] at yy
        exact pk_eq kk 3 (fun e => absurd (by omega) cb) (fun e3 => pk_eq kk 4 (fun e => absurd (by omega) cb) (fun e4 => pk_eq kk 6 (fun e => absurd (by omega) cb) (fun e6 => pk_eq kk 9 (fun e => absurd (by omega) cb) (fun e9 => fX _ yy))))
  · exact x_isSlot_f hx (br_t rfl (y_out_f (L := 24) hx (br_f (by decide) ⟨rfl, zz_in q⟩)))
end
end
section
/-! deliver: one lemma a kind -/
section
variable {N R K : Nat} {xlt xls xlc : Int64} {xrq xwq xpc : Int32} {xal xrg xkw xac xlv xrs xrk xry xro xra xrn xan xmk xmf xmt xmy xmg xmc xpn : Nat → Int32} {xlp xst xhi xcx xaw xms : Nat → Int64}
theorem x_d1 {post : Int32 → SX → Prop} {s ff tt yy : Nat} (hs : s < 24) (hf : xmf s = nI ff) (ht : xmt s = nI tt) (hy : xmy s = nI yy) (hff : ff < 6) (htt : tt < 6) (hyy : yy < 4) (hal : ¬ xal tt = 0) (hk : xmk s = nI 1) (h : post (upd xmk s 3 s) (xlt, nI N, nI R, xrq, xwq, xpc, xls, xlc, nI K, xal, xrg, xkw, xac, xlv, xlp, vp_updL xst (tt * 4 + yy) (jn_ (xst (tt * 4 + yy)) (xms s)), xhi, xcx, xrs, xrk, xry, xro, xra, xrn, xan, xaw, upd xmk s 3, upd xmf s (xmt s), upd xmt s (xmf s), xmy, xmg, xmc, xms, xpn)) : wpX_deliver post (xlt, nI N, nI R, xrq, xwq, xpc, xls, xlc, nI K, xal, xrg, xkw, xac, xlv, xlp, xst, xhi, xcx, xrs, xrk, xry, xro, xra, xrn, xan, xaw, xmk, xmf, xmt, xmy, xmg, xmc, xms, xpn) (nI s) := by
  have v : vp_in (nI s) 24 := vp_in_nI hs (by decide)
  have k0 : ¬ xmk s = 0 := by rw [hk]; decide
  unfold wpX_deliver
  dsimp only
  rw [nI_clamp (n := s) (by omega)]
  refine x_isSlot_t hs (br_f (by decide) ⟨v, br_f k0 ⟨v, ?_⟩⟩)
  rw [ht, nI_clamp (n := tt) (by omega)]
  refine ⟨vp_in_nI htt (by decide), br_f hal ⟨v, nm_r hf ⟨v, nm_e ⟨v, nm_r hy ⟨v, nm_e ⟨v, nm_r hk ?_⟩⟩⟩⟩⟩⟩
  exact br_f (by decide) (br_f (by decide) (br_t rfl (x_jst (by omega) (x_turn hs ⟨v, h⟩))))
theorem x_d2 {post : Int32 → SX → Prop} {s ff tt yy : Nat} (hs : s < 24) (hf : xmf s = nI ff) (ht : xmt s = nI tt) (hy : xmy s = nI yy) (hff : ff < 6) (htt : tt < 6) (hyy : yy < 4) (hal : ¬ xal tt = 0) (hk : xmk s = nI 2) {gg : Nat} (hgg : gg < 6) (hg : xmg s = nI gg) (h : post (upd xmk s 4 s) (xlt, nI N, nI R, xrq, xwq, xpc, xls, xlc, nI K, xal, xrg, xkw, xac, xlv, xlp, vp_updL xst (tt * 4 + yy) (jn_ (xst (tt * 4 + yy)) (xms s)), vp_updL xhi ((tt * 6 + gg) * 4 + yy) (jn_ (xhi ((tt * 6 + gg) * 4 + yy)) (xms s)), xcx, xrs, xrk, xry, xro, xra, xrn, xan, xaw, upd xmk s 4, upd xmf s (xmt s), upd xmt s (xmf s), xmy, xmg, xmc, xms, xpn)) : wpX_deliver post (xlt, nI N, nI R, xrq, xwq, xpc, xls, xlc, nI K, xal, xrg, xkw, xac, xlv, xlp, xst, xhi, xcx, xrs, xrk, xry, xro, xra, xrn, xan, xaw, xmk, xmf, xmt, xmy, xmg, xmc, xms, xpn) (nI s) := by
  have v : vp_in (nI s) 24 := vp_in_nI hs (by decide)
  have k0 : ¬ xmk s = 0 := by rw [hk]; decide
  unfold wpX_deliver
  dsimp only
  rw [nI_clamp (n := s) (by omega)]
  refine x_isSlot_t hs (br_f (by decide) ⟨v, br_f k0 ⟨v, ?_⟩⟩)
  rw [ht, nI_clamp (n := tt) (by omega)]
  refine ⟨vp_in_nI htt (by decide), br_f hal ⟨v, nm_r hf ⟨v, nm_e ⟨v, nm_r hy ⟨v, nm_e ⟨v, nm_r hk ?_⟩⟩⟩⟩⟩⟩
  refine br_f (by decide) (br_f (by decide) (br_f (by decide) (br_t rfl (x_jst (by omega) ?_))))
  dsimp only
  rw [hg]
  exact ⟨v, x_jhi (by omega) (x_turn hs ⟨v, h⟩)⟩
theorem x_d5 {post : Int32 → SX → Prop} {s ff tt yy : Nat} (hs : s < 24) (hf : xmf s = nI ff) (ht : xmt s = nI tt) (hy : xmy s = nI yy) (hff : ff < 6) (htt : tt < 6) (hyy : yy < 4) (hal : ¬ xal tt = 0) (hk : xmk s = nI 5) (h : post (upd xmk s 6 s) (xlt, nI N, nI R, xrq, xwq, xpc, xls, xlc, nI K, xal, xrg, xkw, xac, xlv, xlp, xst, xhi, xcx, xrs, xrk, xry, xro, xra, xrn, xan, xaw, upd xmk s 6, upd xmf s (xmt s), upd xmt s (xmf s), xmy, xmg, xmc, vp_updL xms s (xst (tt * 4 + yy)), xpn)) : wpX_deliver post (xlt, nI N, nI R, xrq, xwq, xpc, xls, xlc, nI K, xal, xrg, xkw, xac, xlv, xlp, xst, xhi, xcx, xrs, xrk, xry, xro, xra, xrn, xan, xaw, xmk, xmf, xmt, xmy, xmg, xmc, xms, xpn) (nI s) := by
  have v : vp_in (nI s) 24 := vp_in_nI hs (by decide)
  have k0 : ¬ xmk s = 0 := by rw [hk]; decide
  unfold wpX_deliver
  dsimp only
  rw [nI_clamp (n := s) (by omega)]
  refine x_isSlot_t hs (br_f (by decide) ⟨v, br_f k0 ⟨v, ?_⟩⟩)
  rw [ht, nI_clamp (n := tt) (by omega)]
  refine ⟨vp_in_nI htt (by decide), br_f hal ⟨v, nm_r hf ⟨v, nm_e ⟨v, nm_r hy ⟨v, nm_e ⟨v, nm_r hk ?_⟩⟩⟩⟩⟩⟩
  rw [ix_4, nI_clamp (n := tt * 4 + yy) (by omega)]
  exact br_f (by decide) (br_f (by decide) (br_f (by decide) (br_f (by decide) (br_f (by decide) (br_f (by decide) (br_t rfl (⟨vp_in_nI (by omega) (by decide), v, nm_e (x_turn hs ⟨v, h⟩)⟩)))))))
theorem x_d7 {post : Int32 → SX → Prop} {s ff tt yy : Nat} (hs : s < 24) (hf : xmf s = nI ff) (ht : xmt s = nI tt) (hy : xmy s = nI yy) (hff : ff < 6) (htt : tt < 6) (hyy : yy < 4) (hal : ¬ xal tt = 0) (hk : xmk s = nI 7) (h : post (upd xmk s 0 s) (xlt, nI N, nI R, xrq, xwq, xpc, xls, xlc, nI K, xal, xrg, xkw, xac, xlv, xlp, vp_updL xst (tt * 4 + yy) (jn_ (xst (tt * 4 + yy)) (xms s)), xhi, xcx, xrs, xrk, xry, xro, xra, xrn, xan, xaw, upd xmk s 0, upd xmf s (-1), upd xmt s (-1), upd xmy s (-1), upd xmg s (-1), upd xmc s (-1), vp_updL xms s 0, xpn)) : wpX_deliver post (xlt, nI N, nI R, xrq, xwq, xpc, xls, xlc, nI K, xal, xrg, xkw, xac, xlv, xlp, xst, xhi, xcx, xrs, xrk, xry, xro, xra, xrn, xan, xaw, xmk, xmf, xmt, xmy, xmg, xmc, xms, xpn) (nI s) := by
  have v : vp_in (nI s) 24 := vp_in_nI hs (by decide)
  have k0 : ¬ xmk s = 0 := by rw [hk]; decide
  unfold wpX_deliver
  dsimp only
  rw [nI_clamp (n := s) (by omega)]
  refine x_isSlot_t hs (br_f (by decide) ⟨v, br_f k0 ⟨v, ?_⟩⟩)
  rw [ht, nI_clamp (n := tt) (by omega)]
  refine ⟨vp_in_nI htt (by decide), br_f hal ⟨v, nm_r hf ⟨v, nm_e ⟨v, nm_r hy ⟨v, nm_e ⟨v, nm_r hk ?_⟩⟩⟩⟩⟩⟩
  exact br_f (by decide) (br_f (by decide) (br_f (by decide) (br_f (by decide) (br_f (by decide) (br_f (by decide) (br_f (by decide) (br_f (by decide) (br_t rfl (x_jst (by omega) (x_free hs ⟨v, h⟩))))))))))
theorem x_d8 {post : Int32 → SX → Prop} {s ff tt yy : Nat} (hs : s < 24) (hf : xmf s = nI ff) (ht : xmt s = nI tt) (hy : xmy s = nI yy) (hff : ff < 6) (htt : tt < 6) (hyy : yy < 4) (hal : ¬ xal tt = 0) (hk : xmk s = nI 8) (h : post (upd xmk s 9 s) (xlt, nI N, nI R, xrq, xwq, xpc, xls, xlc, nI K, xal, xrg, xkw, xac, xlv, xlp, vp_updL xst (tt * 4 + yy) (jn_ (xst (tt * 4 + yy)) (xms s)), xhi, xcx, xrs, xrk, xry, xro, xra, xrn, xan, xaw, upd xmk s 9, upd xmf s (xmt s), upd xmt s (xmf s), xmy, xmg, xmc, xms, xpn)) : wpX_deliver post (xlt, nI N, nI R, xrq, xwq, xpc, xls, xlc, nI K, xal, xrg, xkw, xac, xlv, xlp, xst, xhi, xcx, xrs, xrk, xry, xro, xra, xrn, xan, xaw, xmk, xmf, xmt, xmy, xmg, xmc, xms, xpn) (nI s) := by
  have v : vp_in (nI s) 24 := vp_in_nI hs (by decide)
  have k0 : ¬ xmk s = 0 := by rw [hk]; decide
  unfold wpX_deliver
  dsimp only
  rw [nI_clamp (n := s) (by omega)]
  refine x_isSlot_t hs (br_f (by decide) ⟨v, br_f k0 ⟨v, ?_⟩⟩)
  rw [ht, nI_clamp (n := tt) (by omega)]
  refine ⟨vp_in_nI htt (by decide), br_f hal ⟨v, nm_r hf ⟨v, nm_e ⟨v, nm_r hy ⟨v, nm_e ⟨v, nm_r hk ?_⟩⟩⟩⟩⟩⟩
  exact br_f (by decide) (br_f (by decide) (br_f (by decide) (br_f (by decide) (br_f (by decide) (br_f (by decide) (br_f (by decide) (br_f (by decide) (br_f (by decide) (br_t rfl (x_jst (by omega) (x_turn hs ⟨v, h⟩)))))))))))
theorem x_d9t {post : Int32 → SX → Prop} {s ff tt yy : Nat} (hs : s < 24) (hf : xmf s = nI ff) (ht : xmt s = nI tt) (hy : xmy s = nI yy) (hff : ff < 6) (htt : tt < 6) (hyy : yy < 4) (hal : ¬ xal tt = 0) (hk : xmk s = nI 9) (oh : ok_ (xhi ((tt * 6 + ff) * 4 + yy))) (oS : ok_ (xms s)) (w : (∀ i, i < 8 → ln_ (xhi ((tt * 6 + ff) * 4 + yy)) i ≤ ln_ (xms s) i)) (h : post (upd xmk s 0 s) (xlt, nI N, nI R, xrq, xwq, xpc, xls, xlc, nI K, xal, xrg, xkw, xac, xlv, xlp, xst, vp_updL xhi ((tt * 6 + ff) * 4 + yy) 0, xcx, xrs, xrk, xry, xro, xra, xrn, xan, xaw, upd xmk s 0, upd xmf s (-1), upd xmt s (-1), upd xmy s (-1), upd xmg s (-1), upd xmc s (-1), vp_updL xms s 0, xpn)) : wpX_deliver post (xlt, nI N, nI R, xrq, xwq, xpc, xls, xlc, nI K, xal, xrg, xkw, xac, xlv, xlp, xst, xhi, xcx, xrs, xrk, xry, xro, xra, xrn, xan, xaw, xmk, xmf, xmt, xmy, xmg, xmc, xms, xpn) (nI s) := by
  have v : vp_in (nI s) 24 := vp_in_nI hs (by decide)
  have k0 : ¬ xmk s = 0 := by rw [hk]; decide
  unfold wpX_deliver
  dsimp only
  rw [nI_clamp (n := s) (by omega)]
  refine x_isSlot_t hs (br_f (by decide) ⟨v, br_f k0 ⟨v, ?_⟩⟩)
  rw [ht, nI_clamp (n := tt) (by omega)]
  refine ⟨vp_in_nI htt (by decide), br_f hal ⟨v, nm_r hf ⟨v, nm_e ⟨v, nm_r hy ⟨v, nm_e ⟨v, nm_r hk ?_⟩⟩⟩⟩⟩⟩
  exact br_f (by decide) (br_t (by decide) (x_set (by omega) oh oS (fun _ => x_free hs ⟨v, h⟩) (fun u => absurd w u)))
theorem x_d9f {post : Int32 → SX → Prop} {s ff tt yy : Nat} (hs : s < 24) (hf : xmf s = nI ff) (ht : xmt s = nI tt) (hy : xmy s = nI yy) (hff : ff < 6) (htt : tt < 6) (hyy : yy < 4) (hal : ¬ xal tt = 0) (hk : xmk s = nI 9) (oh : ok_ (xhi ((tt * 6 + ff) * 4 + yy))) (oS : ok_ (xms s)) (w : ¬ (∀ i, i < 8 → ln_ (xhi ((tt * 6 + ff) * 4 + yy)) i ≤ ln_ (xms s) i)) (h : post (upd xmk s 0 s) (xlt, nI N, nI R, xrq, xwq, xpc, xls, xlc, nI K, xal, xrg, xkw, xac, xlv, xlp, xst, xhi, xcx, xrs, xrk, xry, xro, xra, xrn, xan, xaw, upd xmk s 0, upd xmf s (-1), upd xmt s (-1), upd xmy s (-1), upd xmg s (-1), upd xmc s (-1), vp_updL xms s 0, xpn)) : wpX_deliver post (xlt, nI N, nI R, xrq, xwq, xpc, xls, xlc, nI K, xal, xrg, xkw, xac, xlv, xlp, xst, xhi, xcx, xrs, xrk, xry, xro, xra, xrn, xan, xaw, xmk, xmf, xmt, xmy, xmg, xmc, xms, xpn) (nI s) := by
  have v : vp_in (nI s) 24 := vp_in_nI hs (by decide)
  have k0 : ¬ xmk s = 0 := by rw [hk]; decide
  unfold wpX_deliver
  dsimp only
  rw [nI_clamp (n := s) (by omega)]
  refine x_isSlot_t hs (br_f (by decide) ⟨v, br_f k0 ⟨v, ?_⟩⟩)
  rw [ht, nI_clamp (n := tt) (by omega)]
  refine ⟨vp_in_nI htt (by decide), br_f hal ⟨v, nm_r hf ⟨v, nm_e ⟨v, nm_r hy ⟨v, nm_e ⟨v, nm_r hk ?_⟩⟩⟩⟩⟩⟩
  exact br_f (by decide) (br_t (by decide) (x_set (by omega) oh oS (fun u => absurd u w) (fun _ => x_free hs ⟨v, h⟩)))
theorem x_d3t {post : Int32 → SX → Prop} {s ff tt yy : Nat} (hs : s < 24) (hf : xmf s = nI ff) (ht : xmt s = nI tt) (hy : xmy s = nI yy) (hff : ff < 6) (htt : tt < 6) (hyy : yy < 4) (hal : ¬ xal tt = 0) (hk : xmk s = nI 3) {xst' xms' xcx' xaw' : Nat → Int64} {xrs' xan' xmk' xmf' xmt' xmy' xmg' xmc' xra' : Nat → Int32} (oh : ok_ (xhi ((tt * 6 + ff) * 4 + yy))) (oS : ok_ (xms s)) (w : (∀ i, i < 8 → ln_ (xhi ((tt * 6 + ff) * 4 + yy)) i ≤ ln_ (xms s) i)) (hA : ∀ P : SX → Prop, P (xlt, nI N, nI R, xrq, xwq, xpc, xls, xlc, nI K, xal, xrg, xkw, xac, xlv, xlp, xst', vp_updL xhi ((tt * 6 + ff) * 4 + yy) 0, xcx', xrs', xrk, xry, xro, xra', xrn, xan', xaw', xmk', xmf', xmt', xmy', xmg', xmc', xms', xpn) → wpX_acknowledge P (xlt, nI N, nI R, xrq, xwq, xpc, xls, xlc, nI K, xal, xrg, xkw, xac, xlv, xlp, xst, vp_updL xhi ((tt * 6 + ff) * 4 + yy) 0, xcx, xrs, xrk, xry, xro, xra, xrn, xan, xaw, xmk, xmf, xmt, xmy, xmg, xmc, xms, xpn) (nI s)) (h : post (xmk' s) (xlt, nI N, nI R, xrq, xwq, xpc, xls, xlc, nI K, xal, xrg, xkw, xac, xlv, xlp, xst', vp_updL xhi ((tt * 6 + ff) * 4 + yy) 0, xcx', xrs', xrk, xry, xro, xra', xrn, xan', xaw', xmk', xmf', xmt', xmy', xmg', xmc', xms', xpn)) : wpX_deliver post (xlt, nI N, nI R, xrq, xwq, xpc, xls, xlc, nI K, xal, xrg, xkw, xac, xlv, xlp, xst, xhi, xcx, xrs, xrk, xry, xro, xra, xrn, xan, xaw, xmk, xmf, xmt, xmy, xmg, xmc, xms, xpn) (nI s) := by
  have v : vp_in (nI s) 24 := vp_in_nI hs (by decide)
  have k0 : ¬ xmk s = 0 := by rw [hk]; decide
  unfold wpX_deliver
  dsimp only
  rw [nI_clamp (n := s) (by omega)]
  refine x_isSlot_t hs (br_f (by decide) ⟨v, br_f k0 ⟨v, ?_⟩⟩)
  rw [ht, nI_clamp (n := tt) (by omega)]
  refine ⟨vp_in_nI htt (by decide), br_f hal ⟨v, nm_r hf ⟨v, nm_e ⟨v, nm_r hy ⟨v, nm_e ⟨v, nm_r hk ?_⟩⟩⟩⟩⟩⟩
  exact br_f (by decide) (br_f (by decide) (br_f (by decide) (br_f (by decide) (br_t rfl (x_set (by omega) oh oS (fun _ => hA _ ⟨v, h⟩) (fun u => absurd w u))))))
theorem x_d3f {post : Int32 → SX → Prop} {s ff tt yy : Nat} (hs : s < 24) (hf : xmf s = nI ff) (ht : xmt s = nI tt) (hy : xmy s = nI yy) (hff : ff < 6) (htt : tt < 6) (hyy : yy < 4) (hal : ¬ xal tt = 0) (hk : xmk s = nI 3) {xst' xms' xcx' xaw' : Nat → Int64} {xrs' xan' xmk' xmf' xmt' xmy' xmg' xmc' xra' : Nat → Int32} (oh : ok_ (xhi ((tt * 6 + ff) * 4 + yy))) (oS : ok_ (xms s)) (w : ¬ (∀ i, i < 8 → ln_ (xhi ((tt * 6 + ff) * 4 + yy)) i ≤ ln_ (xms s) i)) (hA : ∀ P : SX → Prop, P (xlt, nI N, nI R, xrq, xwq, xpc, xls, xlc, nI K, xal, xrg, xkw, xac, xlv, xlp, xst', xhi, xcx', xrs', xrk, xry, xro, xra', xrn, xan', xaw', xmk', xmf', xmt', xmy', xmg', xmc', xms', xpn) → wpX_acknowledge P (xlt, nI N, nI R, xrq, xwq, xpc, xls, xlc, nI K, xal, xrg, xkw, xac, xlv, xlp, xst, xhi, xcx, xrs, xrk, xry, xro, xra, xrn, xan, xaw, xmk, xmf, xmt, xmy, xmg, xmc, xms, xpn) (nI s)) (h : post (xmk' s) (xlt, nI N, nI R, xrq, xwq, xpc, xls, xlc, nI K, xal, xrg, xkw, xac, xlv, xlp, xst', xhi, xcx', xrs', xrk, xry, xro, xra', xrn, xan', xaw', xmk', xmf', xmt', xmy', xmg', xmc', xms', xpn)) : wpX_deliver post (xlt, nI N, nI R, xrq, xwq, xpc, xls, xlc, nI K, xal, xrg, xkw, xac, xlv, xlp, xst, xhi, xcx, xrs, xrk, xry, xro, xra, xrn, xan, xaw, xmk, xmf, xmt, xmy, xmg, xmc, xms, xpn) (nI s) := by
  have v : vp_in (nI s) 24 := vp_in_nI hs (by decide)
  have k0 : ¬ xmk s = 0 := by rw [hk]; decide
  unfold wpX_deliver
  dsimp only
  rw [nI_clamp (n := s) (by omega)]
  refine x_isSlot_t hs (br_f (by decide) ⟨v, br_f k0 ⟨v, ?_⟩⟩)
  rw [ht, nI_clamp (n := tt) (by omega)]
  refine ⟨vp_in_nI htt (by decide), br_f hal ⟨v, nm_r hf ⟨v, nm_e ⟨v, nm_r hy ⟨v, nm_e ⟨v, nm_r hk ?_⟩⟩⟩⟩⟩⟩
  exact br_f (by decide) (br_f (by decide) (br_f (by decide) (br_f (by decide) (br_t rfl (x_set (by omega) oh oS (fun u => absurd u w) (fun _ => hA _ ⟨v, h⟩))))))
theorem x_d4 {post : Int32 → SX → Prop} {s ff tt yy : Nat} (hs : s < 24) (hf : xmf s = nI ff) (ht : xmt s = nI tt) (hy : xmy s = nI yy) (hff : ff < 6) (htt : tt < 6) (hyy : yy < 4) (hal : ¬ xal tt = 0) (hk : xmk s = nI 4) {xst' xms' xcx' xaw' : Nat → Int64} {xrs' xan' xmk' xmf' xmt' xmy' xmg' xmc' xra' : Nat → Int32} (hA : ∀ P : SX → Prop, P (xlt, nI N, nI R, xrq, xwq, xpc, xls, xlc, nI K, xal, xrg, xkw, xac, xlv, xlp, xst', xhi, xcx', xrs', xrk, xry, xro, xra', xrn, xan', xaw', xmk', xmf', xmt', xmy', xmg', xmc', xms', xpn) → wpX_acknowledge P (xlt, nI N, nI R, xrq, xwq, xpc, xls, xlc, nI K, xal, xrg, xkw, xac, xlv, xlp, xst, xhi, xcx, xrs, xrk, xry, xro, xra, xrn, xan, xaw, xmk, xmf, xmt, xmy, xmg, xmc, xms, xpn) (nI s)) (h : post (xmk' s) (xlt, nI N, nI R, xrq, xwq, xpc, xls, xlc, nI K, xal, xrg, xkw, xac, xlv, xlp, xst', xhi, xcx', xrs', xrk, xry, xro, xra', xrn, xan', xaw', xmk', xmf', xmt', xmy', xmg', xmc', xms', xpn)) : wpX_deliver post (xlt, nI N, nI R, xrq, xwq, xpc, xls, xlc, nI K, xal, xrg, xkw, xac, xlv, xlp, xst, xhi, xcx, xrs, xrk, xry, xro, xra, xrn, xan, xaw, xmk, xmf, xmt, xmy, xmg, xmc, xms, xpn) (nI s) := by
  have v : vp_in (nI s) 24 := vp_in_nI hs (by decide)
  have k0 : ¬ xmk s = 0 := by rw [hk]; decide
  unfold wpX_deliver
  dsimp only
  rw [nI_clamp (n := s) (by omega)]
  refine x_isSlot_t hs (br_f (by decide) ⟨v, br_f k0 ⟨v, ?_⟩⟩)
  rw [ht, nI_clamp (n := tt) (by omega)]
  refine ⟨vp_in_nI htt (by decide), br_f hal ⟨v, nm_r hf ⟨v, nm_e ⟨v, nm_r hy ⟨v, nm_e ⟨v, nm_r hk ?_⟩⟩⟩⟩⟩⟩
  exact br_f (by decide) (br_f (by decide) (br_f (by decide) (br_f (by decide) (br_f (by decide) (br_t rfl (hA _ ⟨v, h⟩))))))
theorem x_d6c {post : Int32 → SX → Prop} {s ff tt yy : Nat} {c : Nat} (hs : s < 24) (hf : xmf s = nI ff) (ht : xmt s = nI tt) (hy : xmy s = nI yy) (hff : ff < 6) (htt : tt < 6) (hyy : yy < 4) (hal : ¬ xal tt = 0) (hk : xmk s = nI 6) (hc : c < 4) (hmc : xmc s = nI c) {xst' xms' xcx' xaw' : Nat → Int64} {xrs' xan' xmk' xmf' xmt' xmy' xmg' xmc' xra' : Nat → Int32} (hA : ∀ P : SX → Prop, P (xlt, nI N, nI R, xrq, xwq, xpc, xls, xlc, nI K, xal, xrg, xkw, xac, xlv, xlp, xst', xhi, xcx', xrs', xrk, xry, xro, xra', xrn, xan', xaw', xmk', xmf', xmt', xmy', xmg', xmc', xms', xpn) → wpX_acknowledge P (xlt, nI N, nI R, xrq, xwq, xpc, xls, xlc, nI K, xal, xrg, xkw, xac, xlv, xlp, xst, xhi, xcx, xrs, xrk, xry, xro, xra, xrn, upd xan (c * 6 + ff) 1, vp_updL xaw (c * 6 + ff) (xms s), xmk, xmf, xmt, xmy, xmg, xmc, xms, xpn) (nI s)) (h : post (xmk' s) (xlt, nI N, nI R, xrq, xwq, xpc, xls, xlc, nI K, xal, xrg, xkw, xac, xlv, xlp, xst', xhi, xcx', xrs', xrk, xry, xro, xra', xrn, xan', xaw', xmk', xmf', xmt', xmy', xmg', xmc', xms', xpn)) : wpX_deliver post (xlt, nI N, nI R, xrq, xwq, xpc, xls, xlc, nI K, xal, xrg, xkw, xac, xlv, xlp, xst, xhi, xcx, xrs, xrk, xry, xro, xra, xrn, xan, xaw, xmk, xmf, xmt, xmy, xmg, xmc, xms, xpn) (nI s) := by
  have v : vp_in (nI s) 24 := vp_in_nI hs (by decide)
  have k0 : ¬ xmk s = 0 := by rw [hk]; decide
  unfold wpX_deliver
  dsimp only
  rw [nI_clamp (n := s) (by omega)]
  refine x_isSlot_t hs (br_f (by decide) ⟨v, br_f k0 ⟨v, ?_⟩⟩)
  rw [ht, nI_clamp (n := tt) (by omega)]
  refine ⟨vp_in_nI htt (by decide), br_f hal ⟨v, nm_r hf ⟨v, nm_e ⟨v, nm_r hy ⟨v, nm_e ⟨v, nm_r hk ?_⟩⟩⟩⟩⟩⟩
  refine br_f (by decide) (br_f (by decide) (br_f (by decide) (br_f (by decide) (br_f (by decide) (br_f (by decide) (br_f (by decide) (br_t rfl (?_))))))))
  unfold wpX_deliverReply
  dsimp only
  rw [nI_clamp (n := s) (by omega), hmc, hf]
  exact ⟨v, nm_e ⟨v, nm_e (br_f (nI_pos (by omega)) ⟨v, x_rec (by omega) (hA _ ⟨v, h⟩)⟩)⟩⟩
theorem x_d6t {post : Int32 → SX → Prop} {s ff tt yy : Nat} (hs : s < 24) (hf : xmf s = nI ff) (ht : xmt s = nI tt) (hy : xmy s = nI yy) (hff : ff < 6) (htt : tt < 6) (hyy : yy < 4) (hal : ¬ xal tt = 0) (hk : xmk s = nI 6) (hmc : xmc s = -1) (w : jn_ (xst (tt * 4 + yy)) (xms s) = xms s) (h : post (upd xmk s 0 s) (xlt, nI N, nI R, xrq, xwq, xpc, xls, xlc, nI K, xal, xrg, xkw, xac, xlv, xlp, vp_updL xst (tt * 4 + yy) (jn_ (xst (tt * 4 + yy)) (xms s)), xhi, xcx, xrs, xrk, xry, xro, xra, xrn, xan, xaw, upd xmk s 0, upd xmf s (-1), upd xmt s (-1), upd xmy s (-1), upd xmg s (-1), upd xmc s (-1), vp_updL xms s 0, xpn)) : wpX_deliver post (xlt, nI N, nI R, xrq, xwq, xpc, xls, xlc, nI K, xal, xrg, xkw, xac, xlv, xlp, xst, xhi, xcx, xrs, xrk, xry, xro, xra, xrn, xan, xaw, xmk, xmf, xmt, xmy, xmg, xmc, xms, xpn) (nI s) := by
  have v : vp_in (nI s) 24 := vp_in_nI hs (by decide)
  have k0 : ¬ xmk s = 0 := by rw [hk]; decide
  unfold wpX_deliver
  dsimp only
  rw [nI_clamp (n := s) (by omega)]
  refine x_isSlot_t hs (br_f (by decide) ⟨v, br_f k0 ⟨v, ?_⟩⟩)
  rw [ht, nI_clamp (n := tt) (by omega)]
  refine ⟨vp_in_nI htt (by decide), br_f hal ⟨v, nm_r hf ⟨v, nm_e ⟨v, nm_r hy ⟨v, nm_e ⟨v, nm_r hk ?_⟩⟩⟩⟩⟩⟩
  refine br_f (by decide) (br_f (by decide) (br_f (by decide) (br_f (by decide) (br_f (by decide) (br_f (by decide) (br_f (by decide) (br_t rfl (?_))))))))
  unfold wpX_deliverReply
  dsimp only
  rw [nI_clamp (n := s) (by omega), hmc, hy, ht]
  refine ⟨v, nm_e ⟨v, nm_e (br_t neg_1 ⟨v, nm_e ⟨v, nm_e (x_jst (by omega) ?_)⟩⟩)⟩⟩
  dsimp only
  rw [ix_4, nI_clamp (n := tt * 4 + yy) (by omega), pk_uLs]
  exact ⟨vp_in_nI (by omega) (by decide), nm_e (br_t w (x_free hs ⟨v, h⟩))⟩
theorem x_d6f {post : Int32 → SX → Prop} {s ff tt yy : Nat} (hs : s < 24) (hf : xmf s = nI ff) (ht : xmt s = nI tt) (hy : xmy s = nI yy) (hff : ff < 6) (htt : tt < 6) (hyy : yy < 4) (hal : ¬ xal tt = 0) (hk : xmk s = nI 6) (hmc : xmc s = -1) (w : ¬ jn_ (xst (tt * 4 + yy)) (xms s) = xms s) (h : post (upd xmk s 7 s) (xlt, nI N, nI R, xrq, xwq, xpc, xls, xlc, nI K, xal, xrg, xkw, xac, xlv, xlp, vp_updL xst (tt * 4 + yy) (jn_ (xst (tt * 4 + yy)) (xms s)), xhi, xcx, xrs, xrk, xry, xro, xra, xrn, xan, xaw, upd xmk s 7, upd xmf s (xmt s), upd xmt s (xmf s), xmy, xmg, xmc, vp_updL xms s (jn_ (xst (tt * 4 + yy)) (xms s)), xpn)) : wpX_deliver post (xlt, nI N, nI R, xrq, xwq, xpc, xls, xlc, nI K, xal, xrg, xkw, xac, xlv, xlp, xst, xhi, xcx, xrs, xrk, xry, xro, xra, xrn, xan, xaw, xmk, xmf, xmt, xmy, xmg, xmc, xms, xpn) (nI s) := by
  have v : vp_in (nI s) 24 := vp_in_nI hs (by decide)
  have k0 : ¬ xmk s = 0 := by rw [hk]; decide
  unfold wpX_deliver
  dsimp only
  rw [nI_clamp (n := s) (by omega)]
  refine x_isSlot_t hs (br_f (by decide) ⟨v, br_f k0 ⟨v, ?_⟩⟩)
  rw [ht, nI_clamp (n := tt) (by omega)]
  refine ⟨vp_in_nI htt (by decide), br_f hal ⟨v, nm_r hf ⟨v, nm_e ⟨v, nm_r hy ⟨v, nm_e ⟨v, nm_r hk ?_⟩⟩⟩⟩⟩⟩
  refine br_f (by decide) (br_f (by decide) (br_f (by decide) (br_f (by decide) (br_f (by decide) (br_f (by decide) (br_f (by decide) (br_t rfl (?_))))))))
  unfold wpX_deliverReply
  dsimp only
  rw [nI_clamp (n := s) (by omega), hmc, hy, ht]
  refine ⟨v, nm_e ⟨v, nm_e (br_t neg_1 ⟨v, nm_e ⟨v, nm_e (x_jst (by omega) ?_)⟩⟩)⟩⟩
  dsimp only
  rw [ix_4, nI_clamp (n := tt * 4 + yy) (by omega), pk_uLs]
  exact ⟨vp_in_nI (by omega) (by decide), nm_e (br_f w ⟨v, nm_e (x_turn hs ⟨v, h⟩)⟩)⟩
end
section
variable {N R K : Nat} {xrq xwq : Int32} {ybi xkw ywn ywm ywv yal xrs xrk xry xro xra xrn xan xmk ymf ymt ymy ymg xmc yme yph ypn : Nat → Int32}
theorem y_d1 {post : Int32 → SY → Prop} {s ff tt yy : Nat} (hs : s < 24) (hf : ymf s = nI ff) (ht : ymt s = nI tt) (hy : ymy s = nI yy) (hff : ff < 6) (htt : tt < 6) (hyy : yy < 4) (hal : ¬ yal tt = 0) (hk : xmk s = nI 1) (h : post (upd xmk s 3 s) (nI K, nI N, nI R, xrq, xwq, jr_ ybi ((184 + s)) ((tt * 4 + yy)), xkw, ywn, ywm, ywv, yal, xrs, xrk, xry, xro, xra, xrn, xan, upd xmk s 3, upd ymf s (ymt s), upd ymt s (ymf s), ymy, ymg, xmc, yme, yph, ypn)) : wpY_deliver post (nI K, nI N, nI R, xrq, xwq, ybi, xkw, ywn, ywm, ywv, yal, xrs, xrk, xry, xro, xra, xrn, xan, xmk, ymf, ymt, ymy, ymg, xmc, yme, yph, ypn) (nI s) := by
  have v : vp_in (nI s) 24 := vp_in_nI hs (by decide)
  have e184 : 184 + nI s = nI (184 + s) := nI_add 184 s
  unfold wpY_deliver
  dsimp only
  rw [nI_clamp (n := s) (by omega), hk, hf, ht, hy]
  refine y_out_t (L := 24) hs (by decide) (br_t rfl ⟨v, nm_e (br_f (by decide) ⟨v, nm_e ⟨v, nm_e ⟨v, nm_e ⟨v, nm_e ⟨vp_in_nI htt (by decide), ?_⟩⟩⟩⟩⟩)⟩)
  rw [nI_clamp (n := tt) (by omega)]
  refine br_f hal (nm_r e184 (nm_r (ix_4 tt yy) ?_))
  exact br_t rfl (y_join (by omega) (by omega) (br_f (by decide) (br_f (by decide) (br_f (by decide) (br_t rfl (y_bec hs (br_f (by decide) (br_f (by decide) (br_f (by decide) (br_f (by decide) (br_f (by decide) (br_f (by decide) (br_f (by decide) (br_f (by decide) (br_f (by decide) ⟨v, by rw [nI_clamp (n := s) (by omega)]; exact h⟩)))))))))))))))
theorem y_d2 {post : Int32 → SY → Prop} {s ff tt yy : Nat} (hs : s < 24) (hf : ymf s = nI ff) (ht : ymt s = nI tt) (hy : ymy s = nI yy) (hff : ff < 6) (htt : tt < 6) (hyy : yy < 4) (hal : ¬ yal tt = 0) (hk : xmk s = nI 2) {gg : Nat} (hgg : gg < 6) (hg : ymg s = nI gg) (h : post (upd xmk s 4 s) (nI K, nI N, nI R, xrq, xwq, jr_ (jr_ ybi ((184 + s)) ((tt * 4 + yy))) ((184 + s)) ((24 + (tt * 6 + gg) * 4 + yy)), xkw, ywn, ywm, ywv, yal, xrs, xrk, xry, xro, xra, xrn, xan, upd xmk s 4, upd ymf s (ymt s), upd ymt s (ymf s), ymy, ymg, xmc, yme, yph, ypn)) : wpY_deliver post (nI K, nI N, nI R, xrq, xwq, ybi, xkw, ywn, ywm, ywv, yal, xrs, xrk, xry, xro, xra, xrn, xan, xmk, ymf, ymt, ymy, ymg, xmc, yme, yph, ypn) (nI s) := by
  have v : vp_in (nI s) 24 := vp_in_nI hs (by decide)
  have e184 : 184 + nI s = nI (184 + s) := nI_add 184 s
  unfold wpY_deliver
  dsimp only
  rw [nI_clamp (n := s) (by omega), hk, hf, ht, hy]
  refine y_out_t (L := 24) hs (by decide) (br_t rfl ⟨v, nm_e (br_f (by decide) ⟨v, nm_e ⟨v, nm_e ⟨v, nm_e ⟨v, nm_e ⟨vp_in_nI htt (by decide), ?_⟩⟩⟩⟩⟩)⟩)
  rw [nI_clamp (n := tt) (by omega)]
  refine br_f hal (nm_r e184 (nm_r (ix_4 tt yy) ?_))
  refine br_f (by decide) (br_t rfl (y_join (by omega) (by omega) ?_))
  dsimp only
  unfold wY_deliver_128
  rw [nI_clamp (n := s) (by omega), hg]
  exact br_t rfl ⟨v, y_hrow (y_join (by omega) (by omega) (br_f (by decide) (br_f (by decide) (br_f (by decide) (br_t rfl (y_bec hs (br_f (by decide) (br_f (by decide) (br_f (by decide) (br_f (by decide) (br_f (by decide) (br_f (by decide) (br_f (by decide) (br_f (by decide) ⟨v, by rw [nI_clamp (n := s) (by omega)]; exact h⟩))))))))))))))⟩
theorem y_d5 {post : Int32 → SY → Prop} {s ff tt yy : Nat} (hs : s < 24) (hf : ymf s = nI ff) (ht : ymt s = nI tt) (hy : ymy s = nI yy) (hff : ff < 6) (htt : tt < 6) (hyy : yy < 4) (hal : ¬ yal tt = 0) (hk : xmk s = nI 5) (hb : ∀ j, ybi j = 0 ∨ ybi j = 1) (h : post (upd xmk s 6 s) (nI K, nI N, nI R, xrq, xwq, cp_ ybi ((tt * 4 + yy)) ((184 + s)), xkw, ywn, ywm, ywv, yal, xrs, xrk, xry, xro, xra, xrn, xan, upd xmk s 6, upd ymf s (ymt s), upd ymt s (ymf s), ymy, ymg, xmc, yme, yph, ypn)) : wpY_deliver post (nI K, nI N, nI R, xrq, xwq, ybi, xkw, ywn, ywm, ywv, yal, xrs, xrk, xry, xro, xra, xrn, xan, xmk, ymf, ymt, ymy, ymg, xmc, yme, yph, ypn) (nI s) := by
  have v : vp_in (nI s) 24 := vp_in_nI hs (by decide)
  have e184 : 184 + nI s = nI (184 + s) := nI_add 184 s
  unfold wpY_deliver
  dsimp only
  rw [nI_clamp (n := s) (by omega), hk, hf, ht, hy]
  refine y_out_t (L := 24) hs (by decide) (br_t rfl ⟨v, nm_e (br_f (by decide) ⟨v, nm_e ⟨v, nm_e ⟨v, nm_e ⟨v, nm_e ⟨vp_in_nI htt (by decide), ?_⟩⟩⟩⟩⟩)⟩)
  rw [nI_clamp (n := tt) (by omega)]
  refine br_f hal (nm_r e184 (nm_r (ix_4 tt yy) ?_))
  exact br_f (by decide) (br_f (by decide) (br_f (by decide) (br_f (by decide) (br_f (by decide) (br_f (by decide) (br_f (by decide) (br_f (by decide) (br_f (by decide) (br_f (by decide) (br_f (by decide) (br_f (by decide) (br_f (by decide) (br_t rfl (y_bec hs (y_copy (by omega) (by omega) hb (br_f (by decide) (br_f (by decide) (br_f (by decide) (br_f (by decide) ⟨v, by rw [nI_clamp (n := s) (by omega)]; exact h⟩)))))))))))))))))))
theorem y_d7 {post : Int32 → SY → Prop} {s ff tt yy : Nat} (hs : s < 24) (hf : ymf s = nI ff) (ht : ymt s = nI tt) (hy : ymy s = nI yy) (hff : ff < 6) (htt : tt < 6) (hyy : yy < 4) (hal : ¬ yal tt = 0) (hk : xmk s = nI 7) (h : post (upd xmk s 0 s) (nI K, nI N, nI R, xrq, xwq, jr_ ybi ((184 + s)) ((tt * 4 + yy)), xkw, ywn, ywm, ywv, yal, xrs, xrk, xry, xro, xra, xrn, xan, upd xmk s 0, ymf, ymt, ymy, ymg, upd xmc s (-1), yme, yph, ypn)) : wpY_deliver post (nI K, nI N, nI R, xrq, xwq, ybi, xkw, ywn, ywm, ywv, yal, xrs, xrk, xry, xro, xra, xrn, xan, xmk, ymf, ymt, ymy, ymg, xmc, yme, yph, ypn) (nI s) := by
  have v : vp_in (nI s) 24 := vp_in_nI hs (by decide)
  have e184 : 184 + nI s = nI (184 + s) := nI_add 184 s
  unfold wpY_deliver
  dsimp only
  rw [nI_clamp (n := s) (by omega), hk, hf, ht, hy]
  refine y_out_t (L := 24) hs (by decide) (br_t rfl ⟨v, nm_e (br_f (by decide) ⟨v, nm_e ⟨v, nm_e ⟨v, nm_e ⟨v, nm_e ⟨vp_in_nI htt (by decide), ?_⟩⟩⟩⟩⟩)⟩)
  rw [nI_clamp (n := tt) (by omega)]
  refine br_f hal (nm_r e184 (nm_r (ix_4 tt yy) ?_))
  exact br_f (by decide) (br_f (by decide) (br_t rfl (y_join (by omega) (by omega) (br_f (by decide) (br_f (by decide) (br_f (by decide) (br_f (by decide) (br_f (by decide) (br_f (by decide) (br_t rfl (y_rel hs (br_f (by decide) (br_f (by decide) (br_f (by decide) (br_f (by decide) (br_f (by decide) ⟨v, by rw [nI_clamp (n := s) (by omega)]; exact h⟩))))))))))))))))
theorem y_d8 {post : Int32 → SY → Prop} {s ff tt yy : Nat} (hs : s < 24) (hf : ymf s = nI ff) (ht : ymt s = nI tt) (hy : ymy s = nI yy) (hff : ff < 6) (htt : tt < 6) (hyy : yy < 4) (hal : ¬ yal tt = 0) (hk : xmk s = nI 8) (h : post (upd xmk s 9 s) (nI K, nI N, nI R, xrq, xwq, jr_ ybi ((184 + s)) ((tt * 4 + yy)), xkw, ywn, ywm, ywv, yal, xrs, xrk, xry, xro, xra, xrn, xan, upd xmk s 9, upd ymf s (ymt s), upd ymt s (ymf s), ymy, ymg, xmc, yme, yph, ypn)) : wpY_deliver post (nI K, nI N, nI R, xrq, xwq, ybi, xkw, ywn, ywm, ywv, yal, xrs, xrk, xry, xro, xra, xrn, xan, xmk, ymf, ymt, ymy, ymg, xmc, yme, yph, ypn) (nI s) := by
  have v : vp_in (nI s) 24 := vp_in_nI hs (by decide)
  have e184 : 184 + nI s = nI (184 + s) := nI_add 184 s
  unfold wpY_deliver
  dsimp only
  rw [nI_clamp (n := s) (by omega), hk, hf, ht, hy]
  refine y_out_t (L := 24) hs (by decide) (br_t rfl ⟨v, nm_e (br_f (by decide) ⟨v, nm_e ⟨v, nm_e ⟨v, nm_e ⟨v, nm_e ⟨vp_in_nI htt (by decide), ?_⟩⟩⟩⟩⟩)⟩)
  rw [nI_clamp (n := tt) (by omega)]
  refine br_f hal (nm_r e184 (nm_r (ix_4 tt yy) ?_))
  exact br_f (by decide) (br_f (by decide) (br_f (by decide) (br_t rfl (y_join (by omega) (by omega) (br_f (by decide) (br_f (by decide) (br_f (by decide) (br_f (by decide) (br_f (by decide) (br_t rfl (y_bec hs (br_f (by decide) (br_f (by decide) (br_f (by decide) (br_f (by decide) (br_f (by decide) (br_f (by decide) (br_f (by decide) ⟨v, by rw [nI_clamp (n := s) (by omega)]; exact h⟩))))))))))))))))))
theorem y_d9t {post : Int32 → SY → Prop} {s ff tt yy : Nat} (hs : s < 24) (hf : ymf s = nI ff) (ht : ymt s = nI tt) (hy : ymy s = nI yy) (hff : ff < 6) (htt : tt < 6) (hyy : yy < 4) (hal : ¬ yal tt = 0) (hk : xmk s = nI 9) (hb : ∀ j, ybi j = 0 ∨ ybi j = 1) (w : (∀ t, t < 40 → ¬ ybi ((24 + (tt * 6 + ff) * 4 + yy) * 40 + t) = 0 → ¬ ybi ((184 + s) * 40 + t) = 0)) (h : post (upd xmk s 0 s) (nI K, nI N, nI R, xrq, xwq, cp_ ybi (234) ((24 + (tt * 6 + ff) * 4 + yy)), xkw, ywn, ywm, ywv, yal, xrs, xrk, xry, xro, xra, xrn, xan, upd xmk s 0, ymf, ymt, ymy, ymg, upd xmc s (-1), yme, yph, ypn)) : wpY_deliver post (nI K, nI N, nI R, xrq, xwq, ybi, xkw, ywn, ywm, ywv, yal, xrs, xrk, xry, xro, xra, xrn, xan, xmk, ymf, ymt, ymy, ymg, xmc, yme, yph, ypn) (nI s) := by
  have v : vp_in (nI s) 24 := vp_in_nI hs (by decide)
  have e184 : 184 + nI s = nI (184 + s) := nI_add 184 s
  unfold wpY_deliver
  dsimp only
  rw [nI_clamp (n := s) (by omega), hk, hf, ht, hy]
  refine y_out_t (L := 24) hs (by decide) (br_t rfl ⟨v, nm_e (br_f (by decide) ⟨v, nm_e ⟨v, nm_e ⟨v, nm_e ⟨v, nm_e ⟨vp_in_nI htt (by decide), ?_⟩⟩⟩⟩⟩)⟩)
  rw [nI_clamp (n := tt) (by omega)]
  refine br_f hal (nm_r e184 (nm_r (ix_4 tt yy) ?_))
  exact br_f (by decide) (br_f (by decide) (br_f (by decide) (br_f (by decide) (br_f (by decide) (br_f (by decide) (br_f (by decide) (br_t rfl (y_hrow (y_sub (by omega) (by omega) (fun u => br_f (by decide) (y_copy (q := 234) (by omega) (by omega) hb (br_f (by decide) (br_f (by decide) (br_f (by decide) (br_f (by decide) (br_t rfl (y_rel hs (br_f (by decide) (br_f (by decide) (br_f (by decide) (br_f (by decide) (br_f (by decide) ⟨v, by rw [nI_clamp (n := s) (by omega)]; exact h⟩))))))))))))) (fun u => absurd w u))))))))))
theorem y_d9f {post : Int32 → SY → Prop} {s ff tt yy : Nat} (hs : s < 24) (hf : ymf s = nI ff) (ht : ymt s = nI tt) (hy : ymy s = nI yy) (hff : ff < 6) (htt : tt < 6) (hyy : yy < 4) (hal : ¬ yal tt = 0) (hk : xmk s = nI 9) (w : ¬ (∀ t, t < 40 → ¬ ybi ((24 + (tt * 6 + ff) * 4 + yy) * 40 + t) = 0 → ¬ ybi ((184 + s) * 40 + t) = 0)) (h : post (upd xmk s 0 s) (nI K, nI N, nI R, xrq, xwq, ybi, xkw, ywn, ywm, ywv, yal, xrs, xrk, xry, xro, xra, xrn, xan, upd xmk s 0, ymf, ymt, ymy, ymg, upd xmc s (-1), yme, yph, ypn)) : wpY_deliver post (nI K, nI N, nI R, xrq, xwq, ybi, xkw, ywn, ywm, ywv, yal, xrs, xrk, xry, xro, xra, xrn, xan, xmk, ymf, ymt, ymy, ymg, xmc, yme, yph, ypn) (nI s) := by
  have v : vp_in (nI s) 24 := vp_in_nI hs (by decide)
  have e184 : 184 + nI s = nI (184 + s) := nI_add 184 s
  unfold wpY_deliver
  dsimp only
  rw [nI_clamp (n := s) (by omega), hk, hf, ht, hy]
  refine y_out_t (L := 24) hs (by decide) (br_t rfl ⟨v, nm_e (br_f (by decide) ⟨v, nm_e ⟨v, nm_e ⟨v, nm_e ⟨v, nm_e ⟨vp_in_nI htt (by decide), ?_⟩⟩⟩⟩⟩)⟩)
  rw [nI_clamp (n := tt) (by omega)]
  refine br_f hal (nm_r e184 (nm_r (ix_4 tt yy) ?_))
  exact br_f (by decide) (br_f (by decide) (br_f (by decide) (br_f (by decide) (br_f (by decide) (br_f (by decide) (br_f (by decide) (br_t rfl (y_hrow (y_sub (by omega) (by omega) (fun u => absurd u w) (fun u => br_t rfl (br_f (by decide) (br_f (by decide) (br_f (by decide) (br_f (by decide) (br_t rfl (y_rel hs (br_f (by decide) (br_f (by decide) (br_f (by decide) (br_f (by decide) (br_f (by decide) ⟨v, by rw [nI_clamp (n := s) (by omega)]; exact h⟩)))))))))))))))))))))
theorem y_d3t {post : Int32 → SY → Prop} {s ff tt yy : Nat} (hs : s < 24) (hf : ymf s = nI ff) (ht : ymt s = nI tt) (hy : ymy s = nI yy) (hff : ff < 6) (htt : tt < 6) (hyy : yy < 4) (hal : ¬ yal tt = 0) (hk : xmk s = nI 3) {xrs' xan' xmk' xmc' ybi' ymf' ymt' ymy' ymg' xra' : Nat → Int32} (hb : ∀ j, ybi j = 0 ∨ ybi j = 1) (w : (∀ t, t < 40 → ¬ ybi ((24 + (tt * 6 + ff) * 4 + yy) * 40 + t) = 0 → ¬ ybi ((184 + s) * 40 + t) = 0)) (hA : ∀ (P : Int32 → SY → Prop) (x2 x3 x7 : Int32), ¬ x2 = 6 → P (xmk' s) (nI K, nI N, nI R, xrq, xwq, ybi', xkw, ywn, ywm, ywv, yal, xrs', xrk, xry, xro, xra', xrn, xan', xmk', ymf', ymt', ymy', ymg', xmc', yme, yph, ypn) → wY_deliver_336 P (nI s) x2 x3 (xmc s) x7 (nI K) (nI N) (nI R) xrq xwq (cp_ ybi (234) ((24 + (tt * 6 + ff) * 4 + yy))) xkw ywn ywm ywv yal xrs xrk xry xro xra xrn xan xmk ymf ymt ymy ymg xmc yme yph ypn) (h : post (xmk' s) (nI K, nI N, nI R, xrq, xwq, ybi', xkw, ywn, ywm, ywv, yal, xrs', xrk, xry, xro, xra', xrn, xan', xmk', ymf', ymt', ymy', ymg', xmc', yme, yph, ypn)) : wpY_deliver post (nI K, nI N, nI R, xrq, xwq, ybi, xkw, ywn, ywm, ywv, yal, xrs, xrk, xry, xro, xra, xrn, xan, xmk, ymf, ymt, ymy, ymg, xmc, yme, yph, ypn) (nI s) := by
  have v : vp_in (nI s) 24 := vp_in_nI hs (by decide)
  have e184 : 184 + nI s = nI (184 + s) := nI_add 184 s
  unfold wpY_deliver
  dsimp only
  rw [nI_clamp (n := s) (by omega), hk, hf, ht, hy]
  refine y_out_t (L := 24) hs (by decide) (br_t rfl ⟨v, nm_e (br_f (by decide) ⟨v, nm_e ⟨v, nm_e ⟨v, nm_e ⟨v, nm_e ⟨vp_in_nI htt (by decide), ?_⟩⟩⟩⟩⟩)⟩)
  rw [nI_clamp (n := tt) (by omega)]
  refine br_f hal (nm_r e184 (nm_r (ix_4 tt yy) ?_))
  exact br_f (by decide) (br_f (by decide) (br_f (by decide) (br_f (by decide) (br_f (by decide) (br_f (by decide) (br_t rfl (y_hrow (y_sub (by omega) (by omega) (fun u => br_f (by decide) (y_copy (q := 234) (by omega) (by omega) hb (br_f (by decide) (br_f (by decide) (br_f (by decide) (br_f (by decide) (br_f (by decide) (br_f (by decide) (br_f (by decide) (br_t rfl (hA _ _ _ _ (by decide) h))))))))))) (fun u => absurd w u)))))))))
theorem y_d3f {post : Int32 → SY → Prop} {s ff tt yy : Nat} (hs : s < 24) (hf : ymf s = nI ff) (ht : ymt s = nI tt) (hy : ymy s = nI yy) (hff : ff < 6) (htt : tt < 6) (hyy : yy < 4) (hal : ¬ yal tt = 0) (hk : xmk s = nI 3) {xrs' xan' xmk' xmc' ybi' ymf' ymt' ymy' ymg' xra' : Nat → Int32} (w : ¬ (∀ t, t < 40 → ¬ ybi ((24 + (tt * 6 + ff) * 4 + yy) * 40 + t) = 0 → ¬ ybi ((184 + s) * 40 + t) = 0)) (hA : ∀ (P : Int32 → SY → Prop) (x2 x3 x7 : Int32), ¬ x2 = 6 → P (xmk' s) (nI K, nI N, nI R, xrq, xwq, ybi', xkw, ywn, ywm, ywv, yal, xrs', xrk, xry, xro, xra', xrn, xan', xmk', ymf', ymt', ymy', ymg', xmc', yme, yph, ypn) → wY_deliver_336 P (nI s) x2 x3 (xmc s) x7 (nI K) (nI N) (nI R) xrq xwq ybi xkw ywn ywm ywv yal xrs xrk xry xro xra xrn xan xmk ymf ymt ymy ymg xmc yme yph ypn) (h : post (xmk' s) (nI K, nI N, nI R, xrq, xwq, ybi', xkw, ywn, ywm, ywv, yal, xrs', xrk, xry, xro, xra', xrn, xan', xmk', ymf', ymt', ymy', ymg', xmc', yme, yph, ypn)) : wpY_deliver post (nI K, nI N, nI R, xrq, xwq, ybi, xkw, ywn, ywm, ywv, yal, xrs, xrk, xry, xro, xra, xrn, xan, xmk, ymf, ymt, ymy, ymg, xmc, yme, yph, ypn) (nI s) := by
  have v : vp_in (nI s) 24 := vp_in_nI hs (by decide)
  have e184 : 184 + nI s = nI (184 + s) := nI_add 184 s
  unfold wpY_deliver
  dsimp only
  rw [nI_clamp (n := s) (by omega), hk, hf, ht, hy]
  refine y_out_t (L := 24) hs (by decide) (br_t rfl ⟨v, nm_e (br_f (by decide) ⟨v, nm_e ⟨v, nm_e ⟨v, nm_e ⟨v, nm_e ⟨vp_in_nI htt (by decide), ?_⟩⟩⟩⟩⟩)⟩)
  rw [nI_clamp (n := tt) (by omega)]
  refine br_f hal (nm_r e184 (nm_r (ix_4 tt yy) ?_))
  exact br_f (by decide) (br_f (by decide) (br_f (by decide) (br_f (by decide) (br_f (by decide) (br_f (by decide) (br_t rfl (y_hrow (y_sub (by omega) (by omega) (fun u => absurd u w) (fun u => br_t rfl (br_f (by decide) (br_f (by decide) (br_f (by decide) (br_f (by decide) (br_f (by decide) (br_f (by decide) (br_f (by decide) (br_t rfl (hA _ _ _ _ (by decide) h))))))))))))))))))
theorem y_d4 {post : Int32 → SY → Prop} {s ff tt yy : Nat} (hs : s < 24) (hf : ymf s = nI ff) (ht : ymt s = nI tt) (hy : ymy s = nI yy) (hff : ff < 6) (htt : tt < 6) (hyy : yy < 4) (hal : ¬ yal tt = 0) (hk : xmk s = nI 4) {xrs' xan' xmk' xmc' ybi' ymf' ymt' ymy' ymg' xra' : Nat → Int32} (hA : ∀ (P : Int32 → SY → Prop) (x2 x3 x7 : Int32), ¬ x2 = 6 → P (xmk' s) (nI K, nI N, nI R, xrq, xwq, ybi', xkw, ywn, ywm, ywv, yal, xrs', xrk, xry, xro, xra', xrn, xan', xmk', ymf', ymt', ymy', ymg', xmc', yme, yph, ypn) → wY_deliver_336 P (nI s) x2 x3 (xmc s) x7 (nI K) (nI N) (nI R) xrq xwq ybi xkw ywn ywm ywv yal xrs xrk xry xro xra xrn xan xmk ymf ymt ymy ymg xmc yme yph ypn) (h : post (xmk' s) (nI K, nI N, nI R, xrq, xwq, ybi', xkw, ywn, ywm, ywv, yal, xrs', xrk, xry, xro, xra', xrn, xan', xmk', ymf', ymt', ymy', ymg', xmc', yme, yph, ypn)) : wpY_deliver post (nI K, nI N, nI R, xrq, xwq, ybi, xkw, ywn, ywm, ywv, yal, xrs, xrk, xry, xro, xra, xrn, xan, xmk, ymf, ymt, ymy, ymg, xmc, yme, yph, ypn) (nI s) := by
  have v : vp_in (nI s) 24 := vp_in_nI hs (by decide)
  have e184 : 184 + nI s = nI (184 + s) := nI_add 184 s
  unfold wpY_deliver
  dsimp only
  rw [nI_clamp (n := s) (by omega), hk, hf, ht, hy]
  refine y_out_t (L := 24) hs (by decide) (br_t rfl ⟨v, nm_e (br_f (by decide) ⟨v, nm_e ⟨v, nm_e ⟨v, nm_e ⟨v, nm_e ⟨vp_in_nI htt (by decide), ?_⟩⟩⟩⟩⟩)⟩)
  rw [nI_clamp (n := tt) (by omega)]
  refine br_f hal (nm_r e184 (nm_r (ix_4 tt yy) ?_))
  exact br_f (by decide) (br_f (by decide) (br_f (by decide) (br_f (by decide) (br_f (by decide) (br_f (by decide) (br_f (by decide) (br_f (by decide) (br_f (by decide) (br_f (by decide) (br_f (by decide) (br_f (by decide) (br_f (by decide) (br_f (by decide) (br_f (by decide) (br_f (by decide) (br_t rfl (hA _ _ _ _ (by decide) h)))))))))))))))))
theorem y_d6c {post : Int32 → SY → Prop} {s ff tt yy : Nat} {c : Nat} (hs : s < 24) (hf : ymf s = nI ff) (ht : ymt s = nI tt) (hy : ymy s = nI yy) (hff : ff < 6) (htt : tt < 6) (hyy : yy < 4) (hal : ¬ yal tt = 0) (hk : xmk s = nI 6) (hc : c < 4) (hmc : xmc s = nI c) (hb : ∀ j, ybi j = 0 ∨ ybi j = 1) {xrs' xan' xmk' xmc' ybi' ymf' ymt' ymy' ymg' xra' : Nat → Int32} (hR : ∀ P : SY → Prop, P (nI K, nI N, nI R, xrq, xwq, ybi', xkw, ywn, ywm, ywv, yal, xrs', xrk, xry, xro, xra', xrn, xan', xmk', ymf', ymt', ymy', ymg', xmc', yme, yph, ypn) → wpY_closingRule P (nI K, nI N, nI R, xrq, xwq, cp_ ybi ((184 + s)) (208 + c * 6 + ff), xkw, ywn, ywm, ywv, yal, xrs, xrk, xry, xro, upd xra c (xra c + 1), xrn, upd xan (c * 6 + ff) 1, upd xmk s 0, ymf, ymt, ymy, ymg, upd xmc s (-1), yme, yph, ypn) (nI c)) (h : post (xmk' s) (nI K, nI N, nI R, xrq, xwq, ybi', xkw, ywn, ywm, ywv, yal, xrs', xrk, xry, xro, xra', xrn, xan', xmk', ymf', ymt', ymy', ymg', xmc', yme, yph, ypn)) : wpY_deliver post (nI K, nI N, nI R, xrq, xwq, ybi, xkw, ywn, ywm, ywv, yal, xrs, xrk, xry, xro, xra, xrn, xan, xmk, ymf, ymt, ymy, ymg, xmc, yme, yph, ypn) (nI s) := by
  have v : vp_in (nI s) 24 := vp_in_nI hs (by decide)
  have e184 : 184 + nI s = nI (184 + s) := nI_add 184 s
  unfold wpY_deliver
  dsimp only
  rw [nI_clamp (n := s) (by omega), hk, hf, ht, hy]
  refine y_out_t (L := 24) hs (by decide) (br_t rfl ⟨v, nm_e (br_f (by decide) ⟨v, nm_e ⟨v, nm_e ⟨v, nm_e ⟨v, nm_e ⟨vp_in_nI htt (by decide), ?_⟩⟩⟩⟩⟩)⟩)
  rw [nI_clamp (n := tt) (by omega)]
  refine br_f hal (nm_r e184 (nm_r (ix_4 tt yy) ?_))
  rw [hmc]
  refine br_f (by decide) (br_f (by decide) (br_f (by decide) (br_f (by decide) (br_t rfl (br_f (nI_ne1 (by omega)) (br_f (by decide) (br_f (by decide) (br_f (by decide) (br_f (by decide) (br_f (by decide) (br_f (by decide) (br_f (by decide) (br_f (by decide) (br_f (by decide) (br_t rfl (br_f (nI_ne1 (by omega)) (br_f (by decide) (br_f (by decide) (br_t rfl ?_)))))))))))))))))))
  unfold wY_deliver_336
  refine y_rel hs (br_f (nI_ne1 (by omega)) (br_t rfl (y_take hc hff (by omega) hb ?_)))
  unfold wY_deliver_376
  refine hR _ ⟨v, ?_⟩
  rw [nI_clamp (n := s) (by omega)]
  exact h
theorem y_d6t {post : Int32 → SY → Prop} {s ff tt yy : Nat} (hs : s < 24) (hf : ymf s = nI ff) (ht : ymt s = nI tt) (hy : ymy s = nI yy) (hff : ff < 6) (htt : tt < 6) (hyy : yy < 4) (hal : ¬ yal tt = 0) (hk : xmk s = nI 6) (hmc : xmc s = -1) (w : (∀ t, t < 40 → (¬ jr_ ybi (184 + s) (tt * 4 + yy) ((tt * 4 + yy) * 40 + t) = 0 ↔ ¬ jr_ ybi (184 + s) (tt * 4 + yy) ((184 + s) * 40 + t) = 0))) (h : post (upd xmk s 0 s) (nI K, nI N, nI R, xrq, xwq, jr_ ybi ((184 + s)) ((tt * 4 + yy)), xkw, ywn, ywm, ywv, yal, xrs, xrk, xry, xro, xra, xrn, xan, upd xmk s 0, ymf, ymt, ymy, ymg, upd xmc s (-1), yme, yph, ypn)) : wpY_deliver post (nI K, nI N, nI R, xrq, xwq, ybi, xkw, ywn, ywm, ywv, yal, xrs, xrk, xry, xro, xra, xrn, xan, xmk, ymf, ymt, ymy, ymg, xmc, yme, yph, ypn) (nI s) := by
  have v : vp_in (nI s) 24 := vp_in_nI hs (by decide)
  have e184 : 184 + nI s = nI (184 + s) := nI_add 184 s
  unfold wpY_deliver
  dsimp only
  rw [nI_clamp (n := s) (by omega), hk, hf, ht, hy]
  refine y_out_t (L := 24) hs (by decide) (br_t rfl ⟨v, nm_e (br_f (by decide) ⟨v, nm_e ⟨v, nm_e ⟨v, nm_e ⟨v, nm_e ⟨vp_in_nI htt (by decide), ?_⟩⟩⟩⟩⟩)⟩)
  rw [nI_clamp (n := tt) (by omega)]
  refine br_f hal (nm_r e184 (nm_r (ix_4 tt yy) ?_))
  rw [hmc]
  refine br_f (by decide) (br_f (by decide) (br_f (by decide) (br_f (by decide) (br_t rfl (br_t rfl (y_join (by omega) (by omega) (br_f (by decide) (br_f (by decide) (br_f (by decide) (br_f (by decide) (br_f (by decide) (br_f (by decide) (br_f (by decide) (br_f (by decide) (br_f (by decide) (br_t rfl (br_t rfl (y_same (by omega) (by omega) (fun _ => br_f (by decide) (y_rel hs ⟨v, by rw [nI_clamp (n := s) (by omega)]; exact h⟩)) (fun u => absurd w u)))))))))))))))))))
theorem y_d6f {post : Int32 → SY → Prop} {s ff tt yy : Nat} (hs : s < 24) (hf : ymf s = nI ff) (ht : ymt s = nI tt) (hy : ymy s = nI yy) (hff : ff < 6) (htt : tt < 6) (hyy : yy < 4) (hal : ¬ yal tt = 0) (hk : xmk s = nI 6) (hmc : xmc s = -1) (hb : ∀ j, ybi j = 0 ∨ ybi j = 1) (w : ¬ (∀ t, t < 40 → (¬ jr_ ybi (184 + s) (tt * 4 + yy) ((tt * 4 + yy) * 40 + t) = 0 ↔ ¬ jr_ ybi (184 + s) (tt * 4 + yy) ((184 + s) * 40 + t) = 0))) (h : post (upd xmk s 7 s) (nI K, nI N, nI R, xrq, xwq, cp_ (jr_ ybi ((184 + s)) ((tt * 4 + yy))) ((tt * 4 + yy)) ((184 + s)), xkw, ywn, ywm, ywv, yal, xrs, xrk, xry, xro, xra, xrn, xan, upd xmk s 7, upd ymf s (ymt s), upd ymt s (ymf s), ymy, ymg, xmc, yme, yph, ypn)) : wpY_deliver post (nI K, nI N, nI R, xrq, xwq, ybi, xkw, ywn, ywm, ywv, yal, xrs, xrk, xry, xro, xra, xrn, xan, xmk, ymf, ymt, ymy, ymg, xmc, yme, yph, ypn) (nI s) := by
  have v : vp_in (nI s) 24 := vp_in_nI hs (by decide)
  have e184 : 184 + nI s = nI (184 + s) := nI_add 184 s
  unfold wpY_deliver
  dsimp only
  rw [nI_clamp (n := s) (by omega), hk, hf, ht, hy]
  refine y_out_t (L := 24) hs (by decide) (br_t rfl ⟨v, nm_e (br_f (by decide) ⟨v, nm_e ⟨v, nm_e ⟨v, nm_e ⟨v, nm_e ⟨vp_in_nI htt (by decide), ?_⟩⟩⟩⟩⟩)⟩)
  rw [nI_clamp (n := tt) (by omega)]
  refine br_f hal (nm_r e184 (nm_r (ix_4 tt yy) ?_))
  rw [hmc]
  refine br_f (by decide) (br_f (by decide) (br_f (by decide) (br_f (by decide) (br_t rfl (br_t rfl (y_join (by omega) (by omega) (br_f (by decide) (br_f (by decide) (br_f (by decide) (br_f (by decide) (br_f (by decide) (br_f (by decide) (br_f (by decide) (br_f (by decide) (br_f (by decide) (br_t rfl (br_t rfl (y_same (by omega) (by omega) (fun u => absurd u w) (fun _ => br_t rfl (y_bec hs (y_copy (by omega) (by omega) (jr_01 hb) ⟨v, by rw [nI_clamp (n := s) (by omega)]; exact h⟩)))))))))))))))))))))
end
end
section
/-! deliver: the relation -/
section
variable {N R K : Nat} {xlt xls xlc : Int64} {xrq xwq xpc : Int32} {xal xrg xkw xac xlv xrs xrk xry xro xra xrn xan xmk xmf xmt xmy xmg xmc xpn ybi ywn ywm ywv yal ymf ymt ymy ymg yme yph ypn : Nat → Int32} {xlp xst xhi xcx xaw xms : Nat → Int64}
variable {ex : Nat} {C : Nat → Nat} {D : Nat → Nat → Nat}
variable {k : Nat}
theorem x_ack_c {P : SX → Prop} {s c : Nat} (hs : s < 24) (hc : c < 4) (hmc : xmc s = nI c) (h : wpX_applyClosingRule (fun u => P u) (xlt, nI N, nI R, xrq, xwq, xpc, xls, xlc, nI K, xal, xrg, xkw, xac, xlv, xlp, xst, xhi, xcx, xrs, xrk, xry, xro, upd xra c (xra c + 1), xrn, xan, xaw, upd xmk s 0, upd xmf s (-1), upd xmt s (-1), upd xmy s (-1), upd xmg s (-1), upd xmc s (-1), vp_updL xms s 0, xpn) (nI c)) : wpX_acknowledge P (xlt, nI N, nI R, xrq, xwq, xpc, xls, xlc, nI K, xal, xrg, xkw, xac, xlv, xlp, xst, xhi, xcx, xrs, xrk, xry, xro, xra, xrn, xan, xaw, xmk, xmf, xmt, xmy, xmg, xmc, xms, xpn) (nI s) := by
  have v : vp_in (nI s) 24 := vp_in_nI hs (by decide)
  have vc : vp_in (nI c) 4 := vp_in_nI hc (by decide)
  unfold wpX_acknowledge
  dsimp only
  rw [nI_clamp (n := s) (by omega), hmc]
  refine ⟨v, nm_e (x_free hs (br_f (nI_pos (by omega)) ?_))⟩
  rw [nI_clamp (n := c) (by omega)]
  exact ⟨vc, vc, nm_e h⟩
theorem k_ack {s : Nat} (h : QR 4 N R K C D xls xlc xal xrg xkw xac xlv xlp xst xhi xcx xrs xry xro xan xaw xmk xmf xmt xmy xmg xmc xms ybi ywn ywm ywv yal ymf ymt ymy ymg) (hs : s < 24) (hk : ¬ xmk s = 0) : ∃ (xra' : Nat → Int32) (xst' xms' xcx' xaw' : Nat → Int64) (xrs' xan' xmk' xmf' xmt' xmy' xmg' xmc' ybi' ymf' ymt' ymy' ymg' : Nat → Int32), QR 4 N R K C D xls xlc xal xrg xkw xac xlv xlp xst' xhi xcx' xrs' xry xro xan' xaw' xmk' xmf' xmt' xmy' xmg' xmc' xms' ybi' ywn ywm ywv yal ymf' ymt' ymy' ymg' ∧ (∀ P : SX → Prop, P (xlt, nI N, nI R, xrq, xwq, xpc, xls, xlc, nI K, xal, xrg, xkw, xac, xlv, xlp, xst', xhi, xcx', xrs', xrk, xry, xro, xra', xrn, xan', xaw', xmk', xmf', xmt', xmy', xmg', xmc', xms', xpn) → wpX_acknowledge P (xlt, nI N, nI R, xrq, xwq, xpc, xls, xlc, nI K, xal, xrg, xkw, xac, xlv, xlp, xst, xhi, xcx, xrs, xrk, xry, xro, xra, xrn, xan, xaw, xmk, xmf, xmt, xmy, xmg, xmc, xms, xpn) (nI s)) ∧ (∀ (P : Int32 → SY → Prop) (x2 x3 x7 : Int32), ¬ x2 = 6 → P (xmk' s) (nI K, nI N, nI R, xrq, xwq, ybi', xkw, ywn, ywm, ywv, yal, xrs', xrk, xry, xro, xra', xrn, xan', xmk', ymf', ymt', ymy', ymg', xmc', yme, yph, ypn) → wY_deliver_336 P (nI s) x2 x3 (xmc s) x7 (nI K) (nI N) (nI R) xrq xwq ybi xkw ywn ywm ywv yal xrs xrk xry xro xra xrn xan xmk ymf ymt ymy ymg xmc yme yph ypn) := by
  have v : vp_in (nI s) 24 := vp_in_nI hs (by decide)
  obtain ⟨kk, ff, tt, yy, a1, a2, a3, a4, a5, a6, a7, a8, a9, a10, a11, a12, a13, a14, a15⟩ := (h.2.2.2.2.2.2.1 s hs).2 hk
  have hf := q_free (s := s) h
  rcases a14 with w | ⟨cc, w1, w2, w3, w4⟩
  · refine ⟨xra, xst, vp_updL xms s 0, xcx, xaw, xrs, xan, upd xmk s 0, upd xmf s (-1), upd xmt s (-1), upd xmy s (-1), upd xmg s (-1), upd xmc s (-1), ybi, ymf, ymt, ymy, ymg, hf, fun P hp => ?_, fun P x2 x3 x7 n6 hp => ?_⟩
    · unfold wpX_acknowledge
      dsimp only
      rw [nI_clamp (n := s) (by omega), w]
      exact ⟨v, nm_e (x_free hs (br_t neg_1 hp))⟩
    · unfold wY_deliver_336
      rw [w, nI_clamp (n := s) (by omega)]
      exact y_rel hs (br_t rfl ⟨v, hp⟩)
  · obtain ⟨xst', xms', xcx', xaw', xrs', xan', xmk', xmf', xmt', xmy', xmg', xmc', ybi', ymf', ymt', ymy', ymg', hQ, hX, hY⟩ := k_rule (xlt := xlt) (xrq := xrq) (xwq := xwq) (xpc := xpc) (xrk := xrk) (xrn := xrn) (xpn := xpn) (xra := upd xra cc (xra cc + 1)) hf w1 w3
    have vc : vp_in (nI cc) 4 := vp_in_nI w1 (by decide)
    refine ⟨upd xra cc (xra cc + 1), xst', xms', xcx', xaw', xrs', xan', xmk', xmf', xmt', xmy', xmg', xmc', ybi', ymf', ymt', ymy', ymg', hQ, fun P hp => ?_, fun P x2 x3 x7 n6 hp => ?_⟩
    · exact x_ack_c hs w1 w2 (hX _ hp)
    · unfold wY_deliver_336 wY_deliver_376
      rw [w2, nI_clamp (n := s) (by omega), nI_clamp (n := cc) (by omega)]
      exact y_rel hs (br_f (nI_ne1 (by omega)) (br_f n6 ⟨vc, vc, nm_e (hY _ _ _ _ ⟨v, hp⟩)⟩))
theorem m_deliver (q : QR 4 N R K C D xls xlc xal xrg xkw xac xlv xlp xst xhi xcx xrs xry xro xan xaw xmk xmf xmt xmy xmg xmc xms ybi ywn ywm ywv yal ymf ymt ymy ymg) (v1 : Int32) : wpX_deliver (fun r u' => wpY_deliver (fun r' v' => r' = r ∧ i_Rel k u' v') (nI K, nI N, nI R, xrq, xwq, ybi, xkw, ywn, ywm, ywv, yal, xrs, xrk, xry, xro, xra, xrn, xan, xmk, ymf, ymt, ymy, ymg, xmc, yme, yph, ypn) v1) (xlt, nI N, nI R, xrq, xwq, xpc, xls, xlc, nI K, xal, xrg, xkw, xac, xlv, xlp, xst, xhi, xcx, xrs, xrk, xry, xro, xra, xrn, xan, xaw, xmk, xmf, xmt, xmy, xmg, xmc, xms, xpn) v1 := by
  have h6 := q.1.2.1
  rcases rng v1 (n := 24) (by decide) with ⟨s, hs, rfl⟩ | hx
  · have v : vp_in (nI s) 24 := vp_in_nI hs (by decide)
    by_cases zk : xmk s = 0
    · unfold wpX_deliver wpY_deliver
      dsimp only
      rw [nI_clamp (n := s) (by omega)]
      exact x_isSlot_t hs (br_f (by decide) ⟨v, br_t zk (y_out_t (L := 24) hs (by decide) (br_t rfl ⟨v, nm_e (br_t zk ⟨rfl, zz_in q⟩)⟩))⟩)
    · obtain ⟨kk, ff, tt, yy, a1, a2, a3, a4, a5, a6, a7, a8, a9, a10, a11, a12, a13, a14, a15⟩ := (q.2.2.2.2.2.2.1 s hs).2 zk
      have vt : vp_in (nI tt) 6 := vp_in_nI (by omega) (by decide)
      have ea := q.2.1 tt a4
      by_cases z : xal tt = 0
      · unfold wpX_deliver wpY_deliver
        dsimp only
        rw [nI_clamp (n := s) (by omega), a8, a9, nI_clamp (n := tt) (by omega)]
        refine x_isSlot_t hs (br_f (by decide) ⟨v, br_f zk ⟨v, vt, br_t z (y_out_t (L := 24) hs (by decide) (br_t rfl ⟨v, nm_e (br_f zk ⟨v, nm_e ⟨v, nm_e ⟨v, nm_e ⟨v, nm_e ⟨vt, ?_⟩⟩⟩⟩⟩)⟩))⟩⟩)
        rw [nI_clamp (n := tt) (by omega)]
        exact br_t (ea.symm.trans z) ⟨rfl, zz_in q⟩
      · have z' : ¬ yal tt = 0 := fun w => z (ea.trans w)
        have k0 : 0 < kk := by
          rcases Nat.eq_zero_or_pos kk with w | w
          · rw [w, nI_0] at a2; exact absurd a2 zk
          · exact w
        have cx := q_cx q a5
        have hb := q_01 q
        have oS := rs_ok cx a15
        have hh := q_hi q a5 (a := tt) (t := ff) (by omega) (by omega)
        have oh := rs_ok cx hh
        have hsub := rs_sub hh a15 cx
        have q1 := q_jst (t := tt) (r := 184 + s) q (by omega) a5 a15
        have cs : kk = 1 ∨ kk = 2 ∨ kk = 3 ∨ kk = 4 ∨ kk = 5 ∨ kk = 6 ∨ kk = 7 ∨ kk = 8 ∨ kk = 9 := by omega
        rcases cs with rfl | rfl | rfl | rfl | rfl | rfl | rfl | rfl | rfl
        · have q2 := q_turn (kn := 3) q1 hs a2 (by omega) (by omega) (by omega) (by omega) (by omega)
          exact x_d1 hs a6 a8 a10 (by omega) (by omega) a5 z a2 (y_d1 hs a7 a9 a11 (by omega) (by omega) a5 z' a2 ⟨rfl, zz_in q2⟩)
        · obtain ⟨gg, g1, g2⟩ := a13 (Or.inl rfl)
          have q2 := q_jhi (a := tt) (t := gg) (r := 184 + s) q1 (by omega) (by omega) a5 (rr_ag ag_jr (by omega) a15)
          have q3 := q_turn (kn := 4) q2 hs a2 (by omega) (by omega) (by omega) (by omega) (by omega)
          exact x_d2 hs a6 a8 a10 (by omega) (by omega) a5 z a2 (by omega) g2 (y_d2 hs a7 a9 a11 (by omega) (by omega) a5 z' a2 (by omega) (a12.trans g2) ⟨rfl, zz_in q3⟩)
        · by_cases w : ∀ i, i < 8 → ln_ (xhi ((tt * 6 + ff) * 4 + yy)) i ≤ ln_ (xms s) i
          · have q2 := q_hz (a := tt) (t := ff) q (by omega) (by omega) a5
            obtain ⟨xra', xst', xms', xcx', xaw', xrs', xan', xmk', xmf', xmt', xmy', xmg', xmc', ybi', ymf', ymt', ymy', ymg', hQ, hX, hY⟩ := k_ack (xlt := xlt) (xrq := xrq) (xwq := xwq) (xpc := xpc) (xrk := xrk) (xra := xra) (xrn := xrn) (xpn := xpn) (yme := yme) (yph := yph) (ypn := ypn) (s := s) q2 hs zk
            exact x_d3t hs a6 a8 a10 (by omega) (by omega) a5 z a2 oh oS w hX (y_d3t hs a7 a9 a11 (by omega) (by omega) a5 z' a2 hb (hsub.mp w) hY ⟨rfl, zz_in hQ⟩)
          · obtain ⟨xra', xst', xms', xcx', xaw', xrs', xan', xmk', xmf', xmt', xmy', xmg', xmc', ybi', ymf', ymt', ymy', ymg', hQ, hX, hY⟩ := k_ack (xlt := xlt) (xrq := xrq) (xwq := xwq) (xpc := xpc) (xrk := xrk) (xra := xra) (xrn := xrn) (xpn := xpn) (yme := yme) (yph := yph) (ypn := ypn) (s := s) q hs zk
            exact x_d3f hs a6 a8 a10 (by omega) (by omega) a5 z a2 oh oS w hX (y_d3f hs a7 a9 a11 (by omega) (by omega) a5 z' a2 (fun u => w (hsub.mpr u)) hY ⟨rfl, zz_in hQ⟩)
        · obtain ⟨xra', xst', xms', xcx', xaw', xrs', xan', xmk', xmf', xmt', xmy', xmg', xmc', ybi', ymf', ymt', ymy', ymg', hQ, hX, hY⟩ := k_ack (xlt := xlt) (xrq := xrq) (xwq := xwq) (xpc := xpc) (xrk := xrk) (xra := xra) (xrn := xrn) (xpn := xpn) (yme := yme) (yph := yph) (ypn := ypn) (s := s) q hs zk
          exact x_d4 hs a6 a8 a10 (by omega) (by omega) a5 z a2 hX (y_d4 hs a7 a9 a11 (by omega) (by omega) a5 z' a2 hY ⟨rfl, zz_in hQ⟩)
        · have q2 := q_ms (yy := yy) (r := tt * 4 + yy) q hs zk a5 a10 (q_st q a5 (t := tt) (by omega))
          have q3 := q_turn (kn := 6) q2 hs a2 (by omega) (by omega) (by omega) (by omega) (by omega)
          exact x_d5 hs a6 a8 a10 (by omega) (by omega) a5 z a2 (y_d5 hs a7 a9 a11 (by omega) (by omega) a5 z' a2 hb ⟨rfl, zz_in q3⟩)
        · rcases a14 with w | ⟨cc, w1, w2, w3, w4⟩
          · have r1 : rr_ C D (jr_ ybi (184 + s) (tt * 4 + yy)) yy (jn_ (xst (tt * 4 + yy)) (xms s)) (tt * 4 + yy) := rr_jr cx (q_st q a5 (t := tt) (by omega)) a15
            have r2 : rr_ C D (jr_ ybi (184 + s) (tt * 4 + yy)) yy (xms s) (184 + s) := rr_ag ag_jr (by omega) a15
            have he := rs_eq r1 r2 cx
            by_cases u : jn_ (xst (tt * 4 + yy)) (xms s) = xms s
            · have q2 := q_free (s := s) q1
              exact x_d6t hs a6 a8 a10 (by omega) (by omega) a5 z a2 w u (y_d6t hs a7 a9 a11 (by omega) (by omega) a5 z' a2 w (he.mp u) ⟨rfl, zz_in q2⟩)
            · have q2 := q_ms (yy := yy) (r := tt * 4 + yy) q1 hs zk a5 a10 r1
              have q3 := q_turn (kn := 7) q2 hs a2 (by omega) (by omega) (by omega) (by omega) (by omega)
              exact x_d6f hs a6 a8 a10 (by omega) (by omega) a5 z a2 w u (y_d6f hs a7 a9 a11 (by omega) (by omega) a5 z' a2 w hb (fun t => u (he.mpr t)) ⟨rfl, zz_in q3⟩)
          · have q2 := q_rec (c := cc) (n := ff) (yy := yy) (r := 184 + s) q w1 (by omega) a5 w4 (Or.inr w3) a15
            have q3 := q_free (s := s) q2
            obtain ⟨xst', xms', xcx', xaw', xrs', xan', xmk', xmf', xmt', xmy', xmg', xmc', ybi', ymf', ymt', ymy', ymg', hQ, hX, hY⟩ := k_rule (xlt := xlt) (xrq := xrq) (xwq := xwq) (xpc := xpc) (xrk := xrk) (xrn := xrn) (xpn := xpn) (xra := upd xra cc (xra cc + 1)) q3 w1 w3
            exact x_d6c hs a6 a8 a10 (by omega) (by omega) a5 z a2 w1 w2 (fun P hp => x_ack_c hs w1 w2 (hX _ hp)) (y_d6c hs a7 a9 a11 (by omega) (by omega) a5 z' a2 w1 w2 hb (fun P hp => hY _ _ _ P hp) ⟨rfl, zz_in hQ⟩)
        · have q2 := q_free (s := s) q1
          exact x_d7 hs a6 a8 a10 (by omega) (by omega) a5 z a2 (y_d7 hs a7 a9 a11 (by omega) (by omega) a5 z' a2 ⟨rfl, zz_in q2⟩)
        · have q2 := q_turn (kn := 9) q1 hs a2 (by omega) (by omega) (by omega) (by omega) (by omega)
          exact x_d8 hs a6 a8 a10 (by omega) (by omega) a5 z a2 (y_d8 hs a7 a9 a11 (by omega) (by omega) a5 z' a2 ⟨rfl, zz_in q2⟩)
        · by_cases w : ∀ i, i < 8 → ln_ (xhi ((tt * 6 + ff) * 4 + yy)) i ≤ ln_ (xms s) i
          · have q2 := q_free (s := s) (q_hz (a := tt) (t := ff) q (by omega) (by omega) a5)
            exact x_d9t hs a6 a8 a10 (by omega) (by omega) a5 z a2 oh oS w (y_d9t hs a7 a9 a11 (by omega) (by omega) a5 z' a2 hb (hsub.mp w) ⟨rfl, zz_in q2⟩)
          · have q2 := q_free (s := s) q
            exact x_d9f hs a6 a8 a10 (by omega) (by omega) a5 z a2 oh oS w (y_d9f hs a7 a9 a11 (by omega) (by omega) a5 z' a2 (fun u => w (hsub.mpr u)) ⟨rfl, zz_in q2⟩)
  · unfold wpX_deliver wpY_deliver
    dsimp only
    exact x_isSlot_f hx (br_t rfl (y_out_f (L := 24) hx (br_f (by decide) ⟨rfl, zz_in q⟩)))
end
end
section
/-! put -/
section
variable {N R K : Nat} {xlt xls xlc : Int64} {xrq xwq xpc : Int32} {xal xrg xkw xac xlv xrs xrk xry xro xra xrn xan xmk xmf xmt xmy xmg xmc xpn ybi ywn ywm ywv yal ymf ymt ymy ymg yme yph ypn : Nat → Int32} {xlp xst xhi xcx xaw xms : Nat → Int64}
variable {ex : Nat} {C : Nat → Nat} {D : Nat → Nat → Nat}
variable {k : Nat}
theorem k_admit (q : QR ex N R K C D xls xlc xal xrg xkw xac xlv xlp xst xhi xcx xrs xry xro xan xaw xmk xmf xmt xmy xmg xmc xms ybi ywn ywm ywv yal ymf ymt ymy ymg) (v1 v2 v3 : Int32) : ∃ r : Int32, (∀ post : Int32 → Prop, post r → wpX_admit post (xlt, nI N, nI R, xrq, xwq, xpc, xls, xlc, nI K, xal, xrg, xkw, xac, xlv, xlp, xst, xhi, xcx, xrs, xrk, xry, xro, xra, xrn, xan, xaw, xmk, xmf, xmt, xmy, xmg, xmc, xms, xpn) v1 v2 v3) ∧ (∀ post : Int32 → Prop, post r → wpY_startCheck post (nI K, nI N, nI R, xrq, xwq, ybi, xkw, ywn, ywm, ywv, yal, xrs, xrk, xry, xro, xra, xrn, xan, xmk, ymf, ymt, ymy, ymg, xmc, yme, yph, ypn) v1 v2 v3) ∧ (r = 1 → ∃ c y o : Nat, c < 4 ∧ y < 4 ∧ o < N ∧ v1 = nI c ∧ v2 = nI y ∧ v3 = nI o ∧ ¬ xrs c = 1 ∧ ¬ xal o = 0) := by
  have h6 := q.1.2.1
  unfold wpX_admit wpY_startCheck
  dsimp only
  rcases rng v1 (n := 4) (by decide) with ⟨c, hc, rfl⟩ | hx
  · rcases rng v2 (n := 4) (by decide) with ⟨y, hy, rfl⟩ | hx
    · rcases rng v3 (n := N) (by omega) with ⟨o, ho, rfl⟩ | hx
      · have v : vp_in (nI c) 4 := vp_in_nI hc (by decide)
        have vo : vp_in (nI o) 6 := vp_in_nI (by omega) (by decide)
        have ea := q.2.1 o ho
        rw [nI_clamp (n := c) (by omega), nI_clamp (n := o) (by omega)]
        by_cases z1 : xrs c = 1
        · exact ⟨-2, fun post hp => x_isClient_t hc (br_f (by decide) (x_isKey_t hy (br_f (by decide) (x_isNode_t h6 ho (br_f (by decide) ⟨v, br_t z1 hp⟩))))), fun post hp => y_out_t (L := 4) hc (by decide) (br_t rfl (y_out_t (L := 4) hy (by decide) (br_t rfl (y_out_t ho (by omega) (br_t rfl ⟨v, br_t z1 hp⟩))))), fun e => absurd e (by decide)⟩
        · by_cases z2 : xal o = 0
          · exact ⟨-3, fun post hp => x_isClient_t hc (br_f (by decide) (x_isKey_t hy (br_f (by decide) (x_isNode_t h6 ho (br_f (by decide) ⟨v, br_f z1 ⟨vo, br_t z2 hp⟩⟩))))), fun post hp => y_out_t (L := 4) hc (by decide) (br_t rfl (y_out_t (L := 4) hy (by decide) (br_t rfl (y_out_t ho (by omega) (br_t rfl ⟨v, br_f z1 ⟨vo, br_t (ea.symm.trans z2) hp⟩⟩))))), fun e => absurd e (by decide)⟩
          · exact ⟨1, fun post hp => x_isClient_t hc (br_f (by decide) (x_isKey_t hy (br_f (by decide) (x_isNode_t h6 ho (br_f (by decide) ⟨v, br_f z1 ⟨vo, br_f z2 hp⟩⟩))))), fun post hp => y_out_t (L := 4) hc (by decide) (br_t rfl (y_out_t (L := 4) hy (by decide) (br_t rfl (y_out_t ho (by omega) (br_t rfl ⟨v, br_f z1 ⟨vo, br_f (fun w => z2 (ea.trans w)) hp⟩⟩))))), fun _ => ⟨c, y, o, hc, hy, ho, rfl, rfl, rfl, z1, z2⟩⟩
      · exact ⟨-1, fun post hp => x_isClient_t hc (br_f (by decide) (x_isKey_t hy (br_f (by decide) (x_isNode_f hx (br_t rfl hp))))), fun post hp => y_out_t (L := 4) hc (by decide) (br_t rfl (y_out_t (L := 4) hy (by decide) (br_t rfl (y_out_f hx (br_f (by decide) hp))))), fun e => absurd e (by decide)⟩
    · exact ⟨-1, fun post hp => x_isClient_t hc (br_f (by decide) (x_isKey_f hx (br_t rfl hp))), fun post hp => y_out_t (L := 4) hc (by decide) (br_t rfl (y_out_f (L := 4) hx (br_f (by decide) hp))), fun e => absurd e (by decide)⟩
  · exact ⟨-1, fun post hp => x_isClient_f hx (br_t rfl hp), fun post hp => y_out_f (L := 4) hx (br_f (by decide) hp), fun e => absurd e (by decide)⟩
theorem k_spread {c y o : Nat} (hc : c < 4) (hy : y < 4) (ho : o < N) (hst : xrs c = 1) (hry : xry c = nI y) (hpx : ∀ j, j < R → xpn j = pl_ xal N R y j) : ∀ d p (xhi xms : Nat → Int64) (xra xmk xmf xmt xmy xmg xmc ybi ymf ymt ymy ymg : Nat → Int32), p + d = R → QR 4 N R K C D xls xlc xal xrg xkw xac xlv xlp xst xhi xcx xrs xry xro xan xaw xmk xmf xmt xmy xmg xmc xms ybi ywn ywm ywv yal ymf ymt ymy ymg → ∃ (xhi' xms' : Nat → Int64) (xra' xmk' xmf' xmt' xmy' xmg' xmc' ybi' ymf' ymt' ymy' ymg' : Nat → Int32), QR 4 N R K C D xls xlc xal xrg xkw xac xlv xlp xst xhi' xcx xrs xry xro xan xaw xmk' xmf' xmt' xmy' xmg' xmc' xms' ybi' ywn ywm ywv yal ymf' ymt' ymy' ymg' ∧ (∀ post : SX → Prop, post (xlt, nI N, nI R, xrq, xwq, xpc, xls, xlc, nI K, xal, xrg, xkw, xac, xlv, xlp, xst, xhi', xcx, xrs, xrk, xry, xro, xra', xrn, xan, xaw, xmk', xmf', xmt', xmy', xmg', xmc', xms', xpn) → wX_spreadWrite_15 post (nI c) (nI y) (nI o) (xst (o * 4 + y)) (d + 1) (nI p) xlt (nI N) (nI R) xrq xwq xpc xls xlc (nI K) xal xrg xkw xac xlv xlp xst xhi xcx xrs xrk xry xro xra xrn xan xaw xmk xmf xmt xmy xmg xmc xms xpn) ∧ (∀ (yme yph ypn : Nat → Int32) (_ : ∀ j, j < R → ypn j = pl_ xal N R y j) (_ : ∀ j, j < R → yph j = nI (od_ N y j)) (post : Int32 → SY → Prop) (f : Nat), wY_put_223 post (nI c) (nI y) (nI o) (nI (o * 4 + y)) (f + 1) (nI R) (nI K) (nI N) (nI R) xrq xwq ybi' xkw ywn ywm ywv yal xrs xrk xry xro xra' xrn xan xmk' ymf' ymt' ymy' ymg' xmc' yme yph ypn → wY_put_223 post (nI c) (nI y) (nI o) (nI (o * 4 + y)) (f + 1 + d) (nI p) (nI K) (nI N) (nI R) xrq xwq ybi xkw ywn ywm ywv yal xrs xrk xry xro xra xrn xan xmk ymf ymt ymy ymg xmc yme yph ypn) := by
  intro d
  induction d with
  | zero =>
    intro p xhi xms xra xmk xmf xmt xmy xmg xmc ybi ymf ymt ymy ymg e h
    have h6 := h.1.2.1
    have hR := h.1.2.2.2
    have e6 : p = R := by omega
    subst e6
    exact ⟨xhi, xms, xra, xmk, xmf, xmt, xmy, xmg, xmc, ybi, ymf, ymt, ymy, ymg, h, fun post hp => br_t (nI_le (Nat.le_refl _) (by omega)) hp, fun yme yph ypn hpy hph post f hp => hp⟩
  | succ d ih =>
    intro p xhi xms xra xmk xmf xmt xmy xmg xmc ybi ymf ymt ymy ymg e h
    have h6 := h.1.2.1
    have hR := h.1.2.2.2
    have hz := h.1
    have hpR : p < R := by omega
    have l := od_lt hz.1 hz.2.1 hy (p := p) (by omega)
    have rg := h.2.2.1 y hy p (by omega)
    have ex := hpx p hpR
    have vx : vp_in (nI (y * 6 + p)) 24 := vp_in_nI (by omega) (by decide)
    have vp : vp_in (nI p) 6 := vp_in_nI (by omega) (by decide)
    have vc : vp_in (nI c) 4 := vp_in_nI hc (by decide)
    have hS := q_st h hy (t := o) (by omega)
    have hj := q_jhi (a := o) (t := od_ N y p) (r := o * 4 + y) h (by omega) (by omega) hy hS
    rcases pl_v (a := xal) hz hy (i := p) hpR with w | ⟨n, w1, w2⟩
    · obtain ⟨xhi', xms', xra', xmk', xmf', xmt', xmy', xmg', xmc', ybi', ymf', ymt', ymy', ymg', hQ, hX, hY⟩ := ih (p + 1) _ xms xra xmk xmf xmt xmy xmg xmc _ ymf ymt ymy ymg (by omega) hj
      refine ⟨xhi', xms', xra', xmk', xmf', xmt', xmy', xmg', xmc', ybi', ymf', ymt', ymy', ymg', hQ, fun post hp => ?_, fun yme yph ypn hpy hph post f hp => ?_⟩
      · rw [wX_spreadWrite_15]
        dsimp only
        rw [ix_6, nI_clamp (n := y * 6 + p) (by omega), nI_clamp (n := p) (by omega), rg, ex, w]
        exact br_f (nI_ge (by omega) (by omega)) ⟨vx, nm_e ⟨vp, nm_e (br_f (by decide) (x_jhi (by omega) (nm_r (nI_1 p) (hX post hp))))⟩⟩
      · show wY_put_223 post (nI c) (nI y) (nI o) (nI (o * 4 + y)) (f + 1 + d + 1) (nI p) (nI K) (nI N) (nI R) xrq xwq ybi xkw ywn ywm ywv yal xrs xrk xry xro xra xrn xan xmk ymf ymt ymy ymg xmc yme yph ypn
        rw [wY_put_223]
        dsimp only
        rw [nI_clamp (n := p) (by omega), hph p hpR, hpy p hpR, w]
        exact br_f (nI_ge (by omega) (by omega)) ⟨vp, nm_e ⟨vp, nm_e (y_hrow (br_t rfl (y_join (by omega) (by omega) (nm_r (nI_1 p) (hY yme yph ypn hpy hph post f hp)))))⟩⟩
    · have nn1 : ¬ nI n = -1 := nI_ne1 (by omega)
      by_cases cno : n = o
      · subst cno
        by_cases cho : od_ N y p = n
        · obtain ⟨xhi', xms', xra', xmk', xmf', xmt', xmy', xmg', xmc', ybi', ymf', ymt', ymy', ymg', hQ, hX, hY⟩ := ih (p + 1) xhi xms (upd xra c 1) xmk xmf xmt xmy xmg xmc ybi ymf ymt ymy ymg (by omega) h
          refine ⟨xhi', xms', xra', xmk', xmf', xmt', xmy', xmg', xmc', ybi', ymf', ymt', ymy', ymg', hQ, fun post hp => ?_, fun yme yph ypn hpy hph post f hp => ?_⟩
          · rw [wX_spreadWrite_15]
            dsimp only
            rw [ix_6, nI_clamp (n := y * 6 + p) (by omega), nI_clamp (n := p) (by omega), rg, ex, w2, cho]
            refine br_f (nI_ge (by omega) (by omega)) ⟨vx, nm_e ⟨vp, nm_e (br_t (nI_pos' (by omega)) (br_t rfl (br_t rfl ?_)))⟩⟩
            unfold wX_spreadWrite_87
            rw [nI_clamp (n := c) (by omega)]
            exact ⟨vc, nm_e (nm_r (nI_1 p) (hX post hp))⟩
          · show wY_put_223 post (nI c) (nI y) (nI n) (nI (n * 4 + y)) (f + 1 + d + 1) (nI p) (nI K) (nI N) (nI R) xrq xwq ybi xkw ywn ywm ywv yal xrs xrk xry xro xra xrn xan xmk ymf ymt ymy ymg xmc yme yph ypn
            rw [wY_put_223]
            dsimp only
            rw [nI_clamp (n := p) (by omega), hph p hpR, hpy p hpR, w2, cho]
            refine br_f (nI_ge (by omega) (by omega)) ⟨vp, nm_e ⟨vp, nm_e (y_hrow (br_f nn1 (br_t rfl (br_t rfl ?_))))⟩⟩
            unfold wY_put_297
            rw [nI_clamp (n := c) (by omega)]
            exact ⟨vc, nm_e (nm_r (nI_1 p) (hY yme yph ypn hpy hph post f hp))⟩
        · have cho' : ¬ nI (od_ N y p) = nI n := fun u => cho ((nI_eq (by omega) (by omega)).mp u)
          obtain ⟨xhi', xms', xra', xmk', xmf', xmt', xmy', xmg', xmc', ybi', ymf', ymt', ymy', ymg', hQ, hX, hY⟩ := ih (p + 1) _ xms (upd xra c 1) xmk xmf xmt xmy xmg xmc _ ymf ymt ymy ymg (by omega) hj
          refine ⟨xhi', xms', xra', xmk', xmf', xmt', xmy', xmg', xmc', ybi', ymf', ymt', ymy', ymg', hQ, fun post hp => ?_, fun yme yph ypn hpy hph post f hp => ?_⟩
          · rw [wX_spreadWrite_15]
            dsimp only
            rw [ix_6, nI_clamp (n := y * 6 + p) (by omega), nI_clamp (n := p) (by omega), rg, ex, w2]
            refine br_f (nI_ge (by omega) (by omega)) ⟨vx, nm_e ⟨vp, nm_e (br_t (nI_pos' (by omega)) (br_t rfl (br_f cho' (x_jhi (by omega) ?_))))⟩⟩
            dsimp only
            unfold wX_spreadWrite_87
            rw [nI_clamp (n := c) (by omega)]
            exact ⟨vc, nm_e (nm_r (nI_1 p) (hX post hp))⟩
          · show wY_put_223 post (nI c) (nI y) (nI n) (nI (n * 4 + y)) (f + 1 + d + 1) (nI p) (nI K) (nI N) (nI R) xrq xwq ybi xkw ywn ywm ywv yal xrs xrk xry xro xra xrn xan xmk ymf ymt ymy ymg xmc yme yph ypn
            rw [wY_put_223]
            dsimp only
            rw [nI_clamp (n := p) (by omega), hph p hpR, hpy p hpR, w2]
            refine br_f (nI_ge (by omega) (by omega)) ⟨vp, nm_e ⟨vp, nm_e (y_hrow (br_f nn1 (br_t rfl (br_f cho' (y_join (by omega) (by omega) ?_)))))⟩⟩
            dsimp only
            unfold wY_put_297
            rw [nI_clamp (n := c) (by omega)]
            exact ⟨vc, nm_e (nm_r (nI_1 p) (hY yme yph ypn hpy hph post f hp))⟩
      · have cno' : ¬ nI n = nI o := fun u => cno ((nI_eq (by omega) (by omega)).mp u)
        by_cases cnh : n = od_ N y p
        · have cnh' : nI n = nI (od_ N y p) := congrArg nI cnh
          rcases fr_or xmk with ⟨s, s1, s2, s3⟩ | s3
          · have hq := q_put (s := s) (kk := 1) (ff := o) (tt := od_ N y p) (yy := y) (r := o * 4 + y) (g := -1) (c := nI c) (S := xst (o * 4 + y)) h s1 (by omega) (by omega) ho (by omega) hy (by omega) (Or.inr ⟨c, hc, rfl, hst, hry⟩) hS
            obtain ⟨xhi', xms', xra', xmk', xmf', xmt', xmy', xmg', xmc', ybi', ymf', ymt', ymy', ymg', hQ, hX, hY⟩ := ih (p + 1) xhi _ xra _ _ _ _ _ _ _ _ _ _ _ (by omega) hq
            refine ⟨xhi', xms', xra', xmk', xmf', xmt', xmy', xmg', xmc', ybi', ymf', ymt', ymy', ymg', hQ, fun post hp => ?_, fun yme yph ypn hpy hph post f hp => ?_⟩
            · rw [wX_spreadWrite_15]
              dsimp only
              rw [ix_6, nI_clamp (n := y * 6 + p) (by omega), nI_clamp (n := p) (by omega), rg, ex, w2]
              exact br_f (nI_ge (by omega) (by omega)) ⟨vx, nm_e ⟨vp, nm_e (br_t (nI_pos' (by omega)) (br_f cno' (br_t cnh' (x_send_t s1 s2 s3 (nm_r (nI_1 p) (hX post hp))))))⟩⟩
            · show wY_put_223 post (nI c) (nI y) (nI o) (nI (o * 4 + y)) (f + 1 + d + 1) (nI p) (nI K) (nI N) (nI R) xrq xwq ybi xkw ywn ywm ywv yal xrs xrk xry xro xra xrn xan xmk ymf ymt ymy ymg xmc yme yph ypn
              rw [wY_put_223]
              dsimp only
              rw [nI_clamp (n := p) (by omega), hph p hpR, hpy p hpR, w2]
              exact br_f (nI_ge (by omega) (by omega)) ⟨vp, nm_e ⟨vp, nm_e (y_hrow (br_f nn1 (br_f cno' (br_t cnh' (y_send_t (by omega) (q_01 h) s1 s2 s3 (nm_r (nI_1 p) (hY yme yph ypn hpy hph post f hp)))))))⟩⟩
          · obtain ⟨xhi', xms', xra', xmk', xmf', xmt', xmy', xmg', xmc', ybi', ymf', ymt', ymy', ymg', hQ, hX, hY⟩ := ih (p + 1) xhi xms xra xmk xmf xmt xmy xmg xmc ybi ymf ymt ymy ymg (by omega) h
            refine ⟨xhi', xms', xra', xmk', xmf', xmt', xmy', xmg', xmc', ybi', ymf', ymt', ymy', ymg', hQ, fun post hp => ?_, fun yme yph ypn hpy hph post f hp => ?_⟩
            · rw [wX_spreadWrite_15]
              dsimp only
              rw [ix_6, nI_clamp (n := y * 6 + p) (by omega), nI_clamp (n := p) (by omega), rg, ex, w2]
              exact br_f (nI_ge (by omega) (by omega)) ⟨vx, nm_e ⟨vp, nm_e (br_t (nI_pos' (by omega)) (br_f cno' (br_t cnh' (x_send_f s3 (nm_r (nI_1 p) (hX post hp))))))⟩⟩
            · show wY_put_223 post (nI c) (nI y) (nI o) (nI (o * 4 + y)) (f + 1 + d + 1) (nI p) (nI K) (nI N) (nI R) xrq xwq ybi xkw ywn ywm ywv yal xrs xrk xry xro xra xrn xan xmk ymf ymt ymy ymg xmc yme yph ypn
              rw [wY_put_223]
              dsimp only
              rw [nI_clamp (n := p) (by omega), hph p hpR, hpy p hpR, w2]
              exact br_f (nI_ge (by omega) (by omega)) ⟨vp, nm_e ⟨vp, nm_e (y_hrow (br_f nn1 (br_f cno' (br_t cnh' (y_send_f s3 (nm_r (nI_1 p) (hY yme yph ypn hpy hph post f hp)))))))⟩⟩
        · have cnh' : ¬ nI n = nI (od_ N y p) := fun u => cnh ((nI_eq (by omega) (by omega)).mp u)
          rcases fr_or xmk with ⟨s, s1, s2, s3⟩ | s3
          · have hq := q_put (s := s) (kk := 2) (ff := o) (tt := n) (yy := y) (r := o * 4 + y) (g := nI (od_ N y p)) (c := nI c) (S := xst (o * 4 + y)) h s1 (by omega) (by omega) ho w1 hy (fun _ => ⟨_, l, rfl⟩) (Or.inr ⟨c, hc, rfl, hst, hry⟩) hS
            obtain ⟨xhi', xms', xra', xmk', xmf', xmt', xmy', xmg', xmc', ybi', ymf', ymt', ymy', ymg', hQ, hX, hY⟩ := ih (p + 1) xhi _ xra _ _ _ _ _ _ _ _ _ _ _ (by omega) hq
            refine ⟨xhi', xms', xra', xmk', xmf', xmt', xmy', xmg', xmc', ybi', ymf', ymt', ymy', ymg', hQ, fun post hp => ?_, fun yme yph ypn hpy hph post f hp => ?_⟩
            · rw [wX_spreadWrite_15]
              dsimp only
              rw [ix_6, nI_clamp (n := y * 6 + p) (by omega), nI_clamp (n := p) (by omega), rg, ex, w2]
              exact br_f (nI_ge (by omega) (by omega)) ⟨vx, nm_e ⟨vp, nm_e (br_t (nI_pos' (by omega)) (br_f cno' (br_f cnh' (x_send_t s1 s2 s3 (nm_r (nI_1 p) (hX post hp))))))⟩⟩
            · show wY_put_223 post (nI c) (nI y) (nI o) (nI (o * 4 + y)) (f + 1 + d + 1) (nI p) (nI K) (nI N) (nI R) xrq xwq ybi xkw ywn ywm ywv yal xrs xrk xry xro xra xrn xan xmk ymf ymt ymy ymg xmc yme yph ypn
              rw [wY_put_223]
              dsimp only
              rw [nI_clamp (n := p) (by omega), hph p hpR, hpy p hpR, w2]
              exact br_f (nI_ge (by omega) (by omega)) ⟨vp, nm_e ⟨vp, nm_e (y_hrow (br_f nn1 (br_f cno' (br_f cnh' (y_send_t (by omega) (q_01 h) s1 s2 s3 (nm_r (nI_1 p) (hY yme yph ypn hpy hph post f hp)))))))⟩⟩
          · obtain ⟨xhi', xms', xra', xmk', xmf', xmt', xmy', xmg', xmc', ybi', ymf', ymt', ymy', ymg', hQ, hX, hY⟩ := ih (p + 1) xhi xms xra xmk xmf xmt xmy xmg xmc ybi ymf ymt ymy ymg (by omega) h
            refine ⟨xhi', xms', xra', xmk', xmf', xmt', xmy', xmg', xmc', ybi', ymf', ymt', ymy', ymg', hQ, fun post hp => ?_, fun yme yph ypn hpy hph post f hp => ?_⟩
            · rw [wX_spreadWrite_15]
              dsimp only
              rw [ix_6, nI_clamp (n := y * 6 + p) (by omega), nI_clamp (n := p) (by omega), rg, ex, w2]
              exact br_f (nI_ge (by omega) (by omega)) ⟨vx, nm_e ⟨vp, nm_e (br_t (nI_pos' (by omega)) (br_f cno' (br_f cnh' (x_send_f s3 (nm_r (nI_1 p) (hX post hp))))))⟩⟩
            · show wY_put_223 post (nI c) (nI y) (nI o) (nI (o * 4 + y)) (f + 1 + d + 1) (nI p) (nI K) (nI N) (nI R) xrq xwq ybi xkw ywn ywm ywv yal xrs xrk xry xro xra xrn xan xmk ymf ymt ymy ymg xmc yme yph ypn
              rw [wY_put_223]
              dsimp only
              rw [nI_clamp (n := p) (by omega), hph p hpR, hpy p hpR, w2]
              exact br_f (nI_ge (by omega) (by omega)) ⟨vp, nm_e ⟨vp, nm_e (y_hrow (br_f nn1 (br_f cno' (br_f cnh' (y_send_f s3 (nm_r (nI_1 p) (hY yme yph ypn hpy hph post f hp)))))))⟩⟩
end
end
section
/-! put: the whole -/
section
variable {N R K : Nat} {xrq xwq : Int32} {ybi xkw ywn ywm ywv yal xrs xrk xry xro xra xrn xan xmk ymf ymt ymy ymg xmc yme yph ypn : Nat → Int32}
theorem y_67 {post : Int32 → SY → Prop} {c y o L : Nat} {w : Int32} {E : Nat → Nat} (hc : c < 4) (hy : y < 4) (ho : o < 6) (hL : L < 40) (hb : ∀ j, ybi j = 0 ∨ ybi j = 1) (hwn : ∀ i, i < L → E i < 6 ∧ ywn (y * 40 + i) = nI (E i)) (h : ∃ n223, wY_put_223 post (nI c) (nI y) (nI o) (nI (o * 4 + y)) n223 0 (nI K) (nI N) (nI R) xrq xwq (ya_ ybi (168 + c * 4 + y) (235 + y * 40 + L) (o * 4 + y) L) (upd xkw y (xkw y + 1)) (upd ywn (y * 40 + L) (nI o)) (upd ywm (y * 40 + L) (nI (ct_n E o L + 1))) (upd ywv (y * 40 + L) w) yal (upd xrs c 1) (upd xrk c 1) (upd xry c (nI y)) (upd xro c (nI o)) (upd xra c 0) (upd xrn c (nI (ct_n E o L + 1))) xan xmk ymf ymt ymy ymg xmc yme yph ypn) : ∀ d j m, j + d = L → wY_put_67 post (nI c) (nI y) (nI o) w (nI L) (nI K) (nI N) (nI R) xrq xwq ybi xkw ywn ywm ywv yal xrs xrk xry xro xra xrn xan xmk ymf ymt ymy ymg xmc yme yph ypn (m + d + 1) (nI (ct_n E o j + 1)) (nI j) := by
  intro d
  induction d with
  | zero =>
    intro j m e
    have e6 : j = L := by omega
    subst e6
    have v1 : vp_in (nI (y * 40 + j)) 160 := vp_in_nI (by omega) (by decide)
    have v2 : vp_in (nI y) 4 := vp_in_nI hy (by decide)
    have v3 : vp_in (nI ((o * 4 + y) * 40 + j)) 15800 := vp_in_nI (by omega) (by decide)
    have e1 : 168 + nI c * 4 + nI y = nI (168 + c * 4 + y) := ix_a4 168 c y
    have e2 : 235 + nI y * 40 + nI j = nI (235 + y * 40 + j) := ix_a40 235 y j
    rw [wY_put_67]
    dsimp only
    rw [ix_40 y j, e1, e2, nI_clamp (n := y * 40 + j) (by omega), nI_clamp (n := y) (by omega)]
    refine br_t (nI_le (Nat.le_refl _) (by omega)) ⟨v1, nm_e ⟨v1, nm_e ⟨v1, nm_e ⟨v2, v2, nm_e (nm_r (ix_4 o y) (y_copy (by omega) (by omega) hb (y_join (by omega) (by omega) ?_)))⟩⟩⟩⟩
    dsimp only
    rw [ix_40 (o * 4 + y) j, nI_clamp (n := (o * 4 + y) * 40 + j) (by omega), nb_1]
    exact ⟨v3, nm_e (y_begin hc h)⟩
  | succ d ih =>
    intro j m e
    have v1 : vp_in (nI (y * 40 + j)) 160 := vp_in_nI (by omega) (by decide)
    have q := ih (j + 1) m (by omega)
    obtain ⟨w1, w2⟩ := hwn j (by omega)
    rw [wY_put_67]
    dsimp only
    rw [ix_40 y j, nI_clamp (n := y * 40 + j) (by omega)]
    refine br_f (nI_ge (by omega) (by omega)) ⟨v1, ?_⟩
    by_cases z : E j = o
    · rw [ct_t z, ← nI_1 (ct_n E o j + 1)] at q
      exact br_t (by rw [w2, z]) (nm_e (nm_r (nI_1 j) q))
    · rw [ct_f z] at q
      exact br_f (fun u => z ((nI_eq (by omega) (by omega)).mp (w2.symm.trans u))) (nm_r (nI_1 j) q)
end
section
variable {N R K : Nat} {xlt xls xlc : Int64} {xrq xwq xpc : Int32} {xal xrg xkw xac xlv xrs xrk xry xro xra xrn xan xmk xmf xmt xmy xmg xmc xpn ybi ywn ywm ywv yal ymf ymt ymy ymg yme yph ypn : Nat → Int32} {xlp xst xhi xcx xaw xms : Nat → Int64}
variable {ex : Nat} {C : Nat → Nat} {D : Nat → Nat → Nat}
variable {k : Nat}
theorem m_put (q : QR 4 N R K C D xls xlc xal xrg xkw xac xlv xlp xst xhi xcx xrs xry xro xan xaw xmk xmf xmt xmy xmg xmc xms ybi ywn ywm ywv yal ymf ymt ymy ymg) (v1 v2 v3 v4 : Int32) : wpX_put (fun r u' => wpY_put (fun r' v' => r' = r ∧ i_Rel k u' v') (nI K, nI N, nI R, xrq, xwq, ybi, xkw, ywn, ywm, ywv, yal, xrs, xrk, xry, xro, xra, xrn, xan, xmk, ymf, ymt, ymy, ymg, xmc, yme, yph, ypn) v1 v2 v3 v4) (xlt, nI N, nI R, xrq, xwq, xpc, xls, xlc, nI K, xal, xrg, xkw, xac, xlv, xlp, xst, xhi, xcx, xrs, xrk, xry, xro, xra, xrn, xan, xaw, xmk, xmf, xmt, xmy, xmg, xmc, xms, xpn) v1 v2 v3 v4 := by
  obtain ⟨r, hXa, hYa, hr⟩ := k_admit (xlt := xlt) (xrq := xrq) (xwq := xwq) (xpc := xpc) (xrk := xrk) (xra := xra) (xrn := xrn) (xpn := xpn) (yme := yme) (yph := yph) (ypn := ypn) q v1 v2 v3
  have h6 := q.1.2.1
  have hz := q.1
  unfold wpX_put wpY_put
  dsimp only
  by_cases e : r = 1
  · obtain ⟨c, y, o, hc, hy, ho, rfl, rfl, rfl, hst, hal⟩ := hr e
    have vy : vp_in (nI y) 4 := vp_in_nI hy (by decide)
    have vc : vp_in (nI c) 4 := vp_in_nI hc (by decide)
    obtain ⟨l1, l2, l3, l4, l5⟩ := q.2.2.2.1 y hy
    have ha : ∀ n, n < N → yal n = xal n := fun n hn => (q.2.1 n hn).symm
    rw [nI_clamp (n := y) (by omega), nI_clamp (n := c) (by omega), l3]
    refine hXa _ (br_t e ⟨vy, ?_⟩)
    by_cases hC : C y < 40
    · have lt40 : nI (C y) < 40 := nI_lt (b := 40) hC (by decide)
      refine br_t lt40 (x_plan hz q.2.2.1 hy ho (fun pn pc hpn => ?_))
      dsimp only
      by_cases ev : vd_ xwq (nI (oc_ (pl_ xal N R y) (nI o) R + mc_ (pl_ xal N R y) (nI o) R)) (nI (mc_ (pl_ xal N R y) (nI o) R)) (nI (oc_ xmk 0 24)) = 1
      · have mb := ct_le (D y) o (C y)
        have q1 := q_acc (w := v4) q hc hy ho hC
        have q2 := q_open q1 hc hst hy ho
        have zid : zr_ xan c 6 = xan := zr_id (fun n hn => (q.2.2.2.2.2.2.2.1 c hc).2 (by omega) hst n hn)
        obtain ⟨xhi', xms', xra', xmk', xmf', xmt', xmy', xmg', xmc', ybi', ymf', ymt', ymy', ymg', hQs, hXs, hYs⟩ := k_spread (xlt := xlt) (xrq := xrq) (xwq := xwq) (xpc := pc) (xrk := upd xrk c 1) (xrn := upd xrn c (nI (ct_n (D y) o (C y) + 1))) (xpn := pn) (c := c) (y := y) (o := o) hc hy ho pk_us pk_us hpn R 0 _ _ (upd xra c 0) _ _ _ _ _ _ _ _ _ _ _ (by omega) q2
        obtain ⟨b1, b2, b3, b4, b5, b6, b7, b8, b9, b10, b11, b12, b13, b14, b15, b16, b17, hQr, hXr, hYr⟩ := k_rule (xlt := xlt) (xrq := xrq) (xwq := xwq) (xpc := pc) (xrk := upd xrk c 1) (xra := xra') (xrn := upd xrn c (nI (ct_n (D y) o (C y) + 1))) (xpn := pn) (c := c) hQs hc pk_us
        rw [nI_0] at hXs hYs
        refine br_t ev (x_acc hc hy (by omega) (by omega) (l5 o ho).1 (x_open hc ?_))
        rw [zid]
        dsimp only
        unfold wpX_spreadWrite
        dsimp only
        rw [ix_4, nI_clamp (n := o * 4 + y) (by omega)]
        refine ⟨vp_in_nI (by omega) (by decide), nm_e ⟨_, hXs _ (hXr _ ⟨vc, ?_⟩)⟩⟩
        refine hYa _ (br_t e ⟨vy, br_t lt40 (y_check (a := xal) hz hy ho ha hal (fun me ph pn2 h1 h2 => ?_))⟩)
        dsimp only
        refine br_t ev ⟨vy, ?_⟩
        refine nm_r l3 ⟨0 + C y + 1, ?_⟩
        refine y_67 (L := C y) (E := D y) hc hy (by omega) hC (q_01 q) (fun i hi => ⟨Nat.lt_of_lt_of_le (l2 i hi) h6, (l4 i hi).1⟩) ⟨_, hYs me ph pn2 h2 h1 _ 0 ?_⟩ (C y) 0 0 (by omega)
        rw [wY_put_223]
        dsimp only
        rw [nI_clamp (n := c) (by omega)]
        exact br_t (nI_le (Nat.le_refl _) (by have := hz.2.2.2; omega)) (hYr me ph pn2 _ ⟨vc, rfl, zz_in hQr⟩)
      · exact br_f ev (hYa _ (br_t e ⟨vy, br_t lt40 (y_check (a := xal) hz hy ho ha hal (fun me ph pn2 h1 h2 => br_f ev ⟨rfl, zz_in q⟩))⟩))
    · have nlt : ¬ nI (C y) < 40 := nI_nlt (a := C y) (b := 40) (by omega) (by omega)
      exact br_f nlt (hYa _ (br_t e ⟨vy, br_f nlt ⟨rfl, zz_in q⟩⟩))
  · exact hXa _ (br_f e (hYa _ (br_f e ⟨rfl, zz_in q⟩)))
end
end
section
/-! get -/
theorem ra_eq (a : Nat → Int32) (c : Nat) : upd (upd a c 0) c (upd a c 0 c + 1) = upd (upd a c 0) c 1 := by
  rw [pk_us]
  rfl
section
variable {N R K : Nat} {xlt xls xlc : Int64} {xrq xwq xpc : Int32} {xal xrg xkw xac xlv xrs xrk xry xro xra xrn xan xmk xmf xmt xmy xmg xmc xpn ybi ywn ywm ywv yal ymf ymt ymy ymg yme yph ypn : Nat → Int32} {xlp xst xhi xcx xaw xms : Nat → Int64}
variable {ex : Nat} {C : Nat → Nat} {D : Nat → Nat → Nat}
variable {k : Nat}
theorem k_rd {c y o e : Nat} (hc : c < 4) (hy : y < 4) (ho : o < N) (hst : xrs c = 1) (hry : xry c = nI y) (heR : e ≤ R) (hpx : ∀ j, j < R → xpn j = pl_ xal N R y j) : ∀ d p (xms : Nat → Int64) (xmk xmf xmt xmy xmg xmc ybi ymf ymt ymy ymg : Nat → Int32), p + d = e → (∀ j, p ≤ j → j < e → ¬ pl_ xal N R y j = nI o) → QR 4 N R K C D xls xlc xal xrg xkw xac xlv xlp xst xhi xcx xrs xry xro xan xaw xmk xmf xmt xmy xmg xmc xms ybi ywn ywm ywv yal ymf ymt ymy ymg → ∃ (xms' : Nat → Int64) (xmk' xmf' xmt' xmy' xmg' xmc' ybi' ymf' ymt' ymy' ymg' : Nat → Int32), QR 4 N R K C D xls xlc xal xrg xkw xac xlv xlp xst xhi xcx xrs xry xro xan xaw xmk' xmf' xmt' xmy' xmg' xmc' xms' ybi' ywn ywm ywv yal ymf' ymt' ymy' ymg' ∧ (∀ (post : SX → Prop) (x4 : Int32) (f : Nat) (xanX xraX : Nat → Int32) (xawX : Nat → Int64), wX_spreadRead_6 post (nI c) (nI y) (nI o) f x4 (nI e) xlt (nI N) (nI R) xrq xwq xpc xls xlc (nI K) xal xrg xkw xac xlv xlp xst xhi xcx xrs xrk xry xro xraX xrn xanX xawX xmk' xmf' xmt' xmy' xmg' xmc' xms' xpn → wX_spreadRead_6 post (nI c) (nI y) (nI o) (f + d) x4 (nI p) xlt (nI N) (nI R) xrq xwq xpc xls xlc (nI K) xal xrg xkw xac xlv xlp xst xhi xcx xrs xrk xry xro xraX xrn xanX xawX xmk xmf xmt xmy xmg xmc xms xpn) ∧ (∀ (yme yph ypn : Nat → Int32) (_ : ∀ j, j < R → ypn j = pl_ xal N R y j) (post : Int32 → SY → Prop) (f : Nat) (xraY : Nat → Int32), wY_get_51 post (nI c) (nI y) (nI o) f (nI e) (nI K) (nI N) (nI R) xrq xwq ybi' xkw ywn ywm ywv yal xrs xrk xry xro xraY xrn xan xmk' ymf' ymt' ymy' ymg' xmc' yme yph ypn → wY_get_51 post (nI c) (nI y) (nI o) (f + d) (nI p) (nI K) (nI N) (nI R) xrq xwq ybi xkw ywn ywm ywv yal xrs xrk xry xro xraY xrn xan xmk ymf ymt ymy ymg xmc yme yph ypn) := by
  intro d
  induction d with
  | zero =>
    intro p xms xmk xmf xmt xmy xmg xmc ybi ymf ymt ymy ymg e1 hn h
    have e6 : p = e := by omega
    subst e6
    exact ⟨xms, xmk, xmf, xmt, xmy, xmg, xmc, ybi, ymf, ymt, ymy, ymg, h, fun post x4 f xanX xraX xawX hp => hp, fun yme yph ypn hpy post f xraY hp => hp⟩
  | succ d ih =>
    intro p xms xmk xmf xmt xmy xmg xmc ybi ymf ymt ymy ymg e1 hn h
    have h6 := h.1.2.1
    have hR := h.1.2.2.2
    have hz := h.1
    have hpR : p < R := by omega
    have vp : vp_in (nI p) 6 := vp_in_nI (by omega) (by decide)
    have ex := hpx p hpR
    have hnp := hn p (Nat.le_refl _) (by omega)
    have hn2 : ∀ j, p + 1 ≤ j → j < e → ¬ pl_ xal N R y j = nI o := fun j j1 j2 => hn j (by omega) j2
    rcases pl_v (a := xal) hz hy (i := p) hpR with w | ⟨n, w1, w2⟩
    · obtain ⟨xms', xmk', xmf', xmt', xmy', xmg', xmc', ybi', ymf', ymt', ymy', ymg', hQ, hX, hY⟩ := ih (p + 1) xms xmk xmf xmt xmy xmg xmc ybi ymf ymt ymy ymg (by omega) hn2 h
      rw [w] at hnp
      refine ⟨xms', xmk', xmf', xmt', xmy', xmg', xmc', ybi', ymf', ymt', ymy', ymg', hQ, fun post x4 f xanX xraX xawX hp => ?_, fun yme yph ypn hpy post f xraY hp => ?_⟩
      · show wX_spreadRead_6 post (nI c) (nI y) (nI o) (f + d + 1) x4 (nI p) xlt (nI N) (nI R) xrq xwq xpc xls xlc (nI K) xal xrg xkw xac xlv xlp xst xhi xcx xrs xrk xry xro xraX xrn xanX xawX xmk xmf xmt xmy xmg xmc xms xpn
        rw [wX_spreadRead_6]
        dsimp only
        rw [nI_clamp (n := p) (by omega), ex, w]
        exact br_f (nI_ge (by omega) (by omega)) ⟨vp, nm_e (br_f hnp (br_t neg_1 (nm_r (nI_1 p) (hX post x4 f xanX xraX xawX hp))))⟩
      · show wY_get_51 post (nI c) (nI y) (nI o) (f + d + 1) (nI p) (nI K) (nI N) (nI R) xrq xwq ybi xkw ywn ywm ywv yal xrs xrk xry xro xraY xrn xan xmk ymf ymt ymy ymg xmc yme yph ypn
        rw [wY_get_51]
        dsimp only
        rw [nI_clamp (n := p) (by omega), hpy p hpR, w]
        exact br_f (nI_ge (by omega) (by omega)) ⟨vp, nm_e (br_f hnp (br_t rfl (nm_r (nI_1 p) (hY yme yph ypn hpy post f xraY hp))))⟩
    · have nn1 : ¬ nI n = -1 := nI_ne1 (by omega)
      rw [w2] at hnp
      rcases fr_or xmk with ⟨s, s1, s2, s3⟩ | s3
      · have hq := q_put (s := s) (kk := 5) (ff := o) (tt := n) (yy := y) (r := 234) (g := -1) (c := nI c) (S := 0) h s1 (by omega) (by omega) ho w1 hy (by omega) (Or.inr ⟨c, hc, rfl, hst, hry⟩) (q_em h)
        obtain ⟨xms', xmk', xmf', xmt', xmy', xmg', xmc', ybi', ymf', ymt', ymy', ymg', hQ, hX, hY⟩ := ih (p + 1) _ _ _ _ _ _ _ _ _ _ _ _ (by omega) hn2 hq
        refine ⟨xms', xmk', xmf', xmt', xmy', xmg', xmc', ybi', ymf', ymt', ymy', ymg', hQ, fun post x4 f xanX xraX xawX hp => ?_, fun yme yph ypn hpy post f xraY hp => ?_⟩
        · show wX_spreadRead_6 post (nI c) (nI y) (nI o) (f + d + 1) x4 (nI p) xlt (nI N) (nI R) xrq xwq xpc xls xlc (nI K) xal xrg xkw xac xlv xlp xst xhi xcx xrs xrk xry xro xraX xrn xanX xawX xmk xmf xmt xmy xmg xmc xms xpn
          rw [wX_spreadRead_6]
          dsimp only
          rw [nI_clamp (n := p) (by omega), ex, w2]
          exact br_f (nI_ge (by omega) (by omega)) ⟨vp, nm_e (br_f hnp (br_f (nI_pos (by omega)) (x_send_t s1 s2 s3 (nm_r (nI_1 p) (hX post x4 f xanX xraX xawX hp)))))⟩
        · show wY_get_51 post (nI c) (nI y) (nI o) (f + d + 1) (nI p) (nI K) (nI N) (nI R) xrq xwq ybi xkw ywn ywm ywv yal xrs xrk xry xro xraY xrn xan xmk ymf ymt ymy ymg xmc yme yph ypn
          rw [wY_get_51]
          dsimp only
          rw [nI_clamp (n := p) (by omega), hpy p hpR, w2]
          exact br_f (nI_ge (by omega) (by omega)) ⟨vp, nm_e (br_f hnp (br_f nn1 (y_send_t (r := 234) (by omega) (q_01 h) s1 s2 s3 (nm_r (nI_1 p) (hY yme yph ypn hpy post f xraY hp)))))⟩
      · obtain ⟨xms', xmk', xmf', xmt', xmy', xmg', xmc', ybi', ymf', ymt', ymy', ymg', hQ, hX, hY⟩ := ih (p + 1) xms xmk xmf xmt xmy xmg xmc ybi ymf ymt ymy ymg (by omega) hn2 h
        refine ⟨xms', xmk', xmf', xmt', xmy', xmg', xmc', ybi', ymf', ymt', ymy', ymg', hQ, fun post x4 f xanX xraX xawX hp => ?_, fun yme yph ypn hpy post f xraY hp => ?_⟩
        · show wX_spreadRead_6 post (nI c) (nI y) (nI o) (f + d + 1) x4 (nI p) xlt (nI N) (nI R) xrq xwq xpc xls xlc (nI K) xal xrg xkw xac xlv xlp xst xhi xcx xrs xrk xry xro xraX xrn xanX xawX xmk xmf xmt xmy xmg xmc xms xpn
          rw [wX_spreadRead_6]
          dsimp only
          rw [nI_clamp (n := p) (by omega), ex, w2]
          exact br_f (nI_ge (by omega) (by omega)) ⟨vp, nm_e (br_f hnp (br_f (nI_pos (by omega)) (x_send_f s3 (nm_r (nI_1 p) (hX post x4 f xanX xraX xawX hp)))))⟩
        · show wY_get_51 post (nI c) (nI y) (nI o) (f + d + 1) (nI p) (nI K) (nI N) (nI R) xrq xwq ybi xkw ywn ywm ywv yal xrs xrk xry xro xraY xrn xan xmk ymf ymt ymy ymg xmc yme yph ypn
          rw [wY_get_51]
          dsimp only
          rw [nI_clamp (n := p) (by omega), hpy p hpR, w2]
          exact br_f (nI_ge (by omega) (by omega)) ⟨vp, nm_e (br_f hnp (br_f nn1 (y_send_f s3 (nm_r (nI_1 p) (hY yme yph ypn hpy post f xraY hp)))))⟩
theorem m_get (q : QR 4 N R K C D xls xlc xal xrg xkw xac xlv xlp xst xhi xcx xrs xry xro xan xaw xmk xmf xmt xmy xmg xmc xms ybi ywn ywm ywv yal ymf ymt ymy ymg) (v1 v2 v3 : Int32) : wpX_get (fun r u' => wpY_get (fun r' v' => r' = r ∧ i_Rel k u' v') (nI K, nI N, nI R, xrq, xwq, ybi, xkw, ywn, ywm, ywv, yal, xrs, xrk, xry, xro, xra, xrn, xan, xmk, ymf, ymt, ymy, ymg, xmc, yme, yph, ypn) v1 v2 v3) (xlt, nI N, nI R, xrq, xwq, xpc, xls, xlc, nI K, xal, xrg, xkw, xac, xlv, xlp, xst, xhi, xcx, xrs, xrk, xry, xro, xra, xrn, xan, xaw, xmk, xmf, xmt, xmy, xmg, xmc, xms, xpn) v1 v2 v3 := by
  obtain ⟨r, hXa, hYa, hr⟩ := k_admit (xlt := xlt) (xrq := xrq) (xwq := xwq) (xpc := xpc) (xrk := xrk) (xra := xra) (xrn := xrn) (xpn := xpn) (yme := yme) (yph := yph) (ypn := ypn) q v1 v2 v3
  have h6 := q.1.2.1
  have hz := q.1
  have hR := q.1.2.2.2
  unfold wpX_get wpY_get
  dsimp only
  by_cases e : r = 1
  · obtain ⟨c, y, o, hc, hy, ho, rfl, rfl, rfl, hst, hal⟩ := hr e
    have vc : vp_in (nI c) 4 := vp_in_nI hc (by decide)
    have vs : vp_in (nI (o * 4 + y)) 24 := vp_in_nI (by omega) (by decide)
    have ha : ∀ n, n < N → yal n = xal n := fun n hn => (q.2.1 n hn).symm
    rw [nI_clamp (n := c) (by omega)]
    refine hXa _ (br_t e (x_plan hz q.2.2.1 hy ho (fun pn pc hpn => ?_)))
    dsimp only
    by_cases ev : vd_ xrq (nI (oc_ (pl_ xal N R y) (nI o) R + mc_ (pl_ xal N R y) (nI o) R)) (nI (mc_ (pl_ xal N R y) (nI o) R)) (nI (oc_ xmk 0 24)) = 1
    · have q2 := q_open q hc hst hy ho
      have zid : zr_ xan c 6 = xan := zr_id (fun n hn => (q.2.2.2.2.2.2.2.1 c hc).2 (by omega) hst n hn)
      refine br_t ev (x_open hc ?_)
      rw [zid]
      dsimp only
      unfold wpX_spreadRead
      dsimp only
      by_cases hex : ∃ p0, p0 < R ∧ pl_ xal N R y p0 = nI o
      · obtain ⟨p0, p1, p2⟩ := hex
        obtain ⟨b1, b2, b3, b4, b5, b6, b7, b8, b9, b10, b11, b12, hQ1, hX1, hY1⟩ := k_rd (xlt := xlt) (xrq := xrq) (xwq := xwq) (xpc := pc) (xrk := upd xrk c 2) (xrn := upd xrn c 0) (xpn := pn) (c := c) (y := y) (o := o) (e := p0) hc hy ho pk_us pk_us (by omega) hpn p0 0 _ _ _ _ _ _ _ _ _ _ _ _ (by omega) (fun j _ j2 w => pl_inj hz hy j2 p1 ho w p2) q2
        have q3 := q_rec (c := c) (n := o) (yy := y) (r := o * 4 + y) hQ1 hc (by omega) hy pk_us (Or.inr pk_us) (q_st hQ1 hy (t := o) (by omega))
        obtain ⟨xms', xmk', xmf', xmt', xmy', xmg', xmc', ybi', ymf', ymt', ymy', ymg', hQ2, hX2, hY2⟩ := k_rd (xlt := xlt) (xrq := xrq) (xwq := xwq) (xpc := pc) (xrk := upd xrk c 2) (xrn := upd xrn c 0) (xpn := pn) (c := c) (y := y) (o := o) (e := R) hc hy ho pk_us pk_us (Nat.le_refl _) hpn (R - (p0 + 1)) (p0 + 1) _ _ _ _ _ _ _ _ _ _ _ _ (by omega) (fun j j1 j2 w => pl_inj hz hy (i := p0) (j := j) (by omega) j2 ho p2 w) q3
        obtain ⟨d1, d2, d3, d4, d5, d6, d7, d8, d9, d10, d11, d12, d13, d14, d15, d16, d17, hQr, hXr, hYr⟩ := k_rule (xlt := xlt) (xrq := xrq) (xwq := xwq) (xpc := pc) (xrk := upd xrk c 2) (xra := upd (upd xra c 0) c 1) (xrn := upd xrn c 0) (xpn := pn) (c := c) hQ2 hc pk_us
        have vp : vp_in (nI p0) 6 := vp_in_nI (by omega) (by decide)
        rw [nI_0] at hX1 hY1
        refine ⟨(0 + 1 + (R - (p0 + 1)) + 1) + p0, hX1 _ 0 (0 + 1 + (R - (p0 + 1)) + 1) _ _ _ ?_⟩
        rw [wX_spreadRead_6]
        dsimp only
        rw [nI_clamp (n := p0) (by omega), hpn p0 p1, p2]
        refine br_f (nI_ge (by omega) (by omega)) ⟨vp, nm_e (br_t rfl (nm_r (nI_1 p0) (hX2 _ 1 (0 + 1) _ _ _ ?_)))⟩
        rw [wX_spreadRead_6]
        dsimp only
        rw [ix_4, nI_clamp (n := o * 4 + y) (by omega)]
        refine br_t (nI_le (Nat.le_refl _) (by omega)) (br_f (by decide) ⟨vs, x_rec (by omega) ?_⟩)
        dsimp only
        rw [nI_clamp (n := c) (by omega)]
        refine ⟨vc, nm_e (hXr _ ⟨vc, ?_⟩)⟩
        refine hYa _ (br_t e (y_check (a := xal) hz hy ho ha hal (fun me ph pn2 h1 h2 => ?_)))
        dsimp only
        refine br_t ev (y_begin hc ⟨(0 + 1 + (R - (p0 + 1)) + 1) + p0, hY1 me ph pn2 h2 _ (0 + 1 + (R - (p0 + 1)) + 1) _ ?_⟩)
        rw [wY_get_51]
        dsimp only
        rw [nI_clamp (n := p0) (by omega), h2 p0 p1, p2, ix_4]
        refine br_f (nI_ge (by omega) (by omega)) ⟨vp, nm_e (br_t rfl (y_take hc (by omega) (by omega) (q_01 hQ1) ?_))⟩
        dsimp only
        rw [ra_eq]
        refine nm_r (nI_1 p0) (hY2 me ph pn2 h2 _ (0 + 1) _ ?_)
        rw [wY_get_51]
        dsimp only
        rw [nI_clamp (n := c) (by omega)]
        exact br_t (nI_le (Nat.le_refl _) (by omega)) (hYr me ph pn2 _ ⟨vc, rfl, zz_in hQr⟩)
      · obtain ⟨xms', xmk', xmf', xmt', xmy', xmg', xmc', ybi', ymf', ymt', ymy', ymg', hQ2, hX2, hY2⟩ := k_rd (xlt := xlt) (xrq := xrq) (xwq := xwq) (xpc := pc) (xrk := upd xrk c 2) (xrn := upd xrn c 0) (xpn := pn) (c := c) (y := y) (o := o) (e := R) hc hy ho pk_us pk_us (Nat.le_refl _) hpn R 0 _ _ _ _ _ _ _ _ _ _ _ _ (by omega) (fun j j1 j2 w => hex ⟨j, j2, w⟩) q2
        obtain ⟨d1, d2, d3, d4, d5, d6, d7, d8, d9, d10, d11, d12, d13, d14, d15, d16, d17, hQr, hXr, hYr⟩ := k_rule (xlt := xlt) (xrq := xrq) (xwq := xwq) (xpc := pc) (xrk := upd xrk c 2) (xra := upd xra c 0) (xrn := upd xrn c 0) (xpn := pn) (c := c) hQ2 hc pk_us
        rw [nI_0] at hX2 hY2
        refine ⟨(0 + 1) + R, hX2 _ 0 (0 + 1) _ _ _ ?_⟩
        rw [wX_spreadRead_6]
        refine br_t (nI_le (Nat.le_refl _) (by omega)) (br_t rfl (hXr _ ⟨vc, ?_⟩))
        refine hYa _ (br_t e (y_check (a := xal) hz hy ho ha hal (fun me ph pn2 h1 h2 => ?_)))
        dsimp only
        refine br_t ev (y_begin hc ⟨(0 + 1) + R, hY2 me ph pn2 h2 _ (0 + 1) _ ?_⟩)
        rw [wY_get_51]
        dsimp only
        rw [nI_clamp (n := c) (by omega)]
        exact br_t (nI_le (Nat.le_refl _) (by omega)) (hYr me ph pn2 _ ⟨vc, rfl, zz_in hQr⟩)
    · exact br_f ev (hYa _ (br_t e (y_check (a := xal) hz hy ho ha hal (fun me ph pn2 h1 h2 => br_f ev ⟨rfl, zz_in q⟩))))
  · exact hXa _ (br_f e (hYa _ (br_f e ⟨rfl, zz_in q⟩)))
end
end
section
/-! the constructors -/
def cm_ (v lo hi : Int32) : Int32 := if lo ≤ v then (if v ≤ hi then v else hi) else lo
theorem cm_n (v : Int32) (a b : Nat) (hab : a ≤ b) (hb : b < 2 ^ 31) : ∃ n, a ≤ n ∧ n ≤ b ∧ cm_ v (nI a) (nI b) = nI n := by
  unfold cm_
  by_cases h : nI a ≤ v
  · rw [if_pos h]
    have h0 : ¬ v < 0 := fun w => Int32.not_lt.mpr (Int32.le_trans (nI_pos' (n := a) (by omega)) h) w
    obtain ⟨j, hj, rfl⟩ := nI_of h0
    have aj : a ≤ j := (nI_leI (by omega) hj).mp h
    by_cases h2 : nI j ≤ nI b
    · rw [if_pos h2]
      exact ⟨j, aj, (nI_leI hj hb).mp h2, rfl⟩
    · rw [if_neg h2]
      exact ⟨b, hab, Nat.le_refl _, rfl⟩
  · rw [if_neg h]
    exact ⟨a, Nat.le_refl _, hab, rfl⟩
theorem cm_w {A : Int32 → Prop} {v lo hi : Int32} (h : A (cm_ v lo hi)) : (lo ≤ v → ((v ≤ hi → A v) ∧ (¬ v ≤ hi → A hi))) ∧ (¬ lo ≤ v → A lo) := by
  unfold cm_ at h
  refine ⟨fun a => ⟨fun b => ?_, fun b => ?_⟩, fun a => ?_⟩
  · rw [if_pos a, if_pos b] at h; exact h
  · rw [if_pos a, if_neg b] at h; exact h
  · rw [if_neg a] at h; exact h
theorem x_clamp {post : Int32 → Prop} {u : SX} {v lo hi : Int32} (h : post (cm_ v lo hi)) : wpX_clamp post u v lo hi := by
  obtain ⟨a1, a2, a3, a4, a5, a6, a7, a8, a9, a10, a11, a12, a13, a14, a15, a16, a17, a18, a19, a20, a21, a22, a23, a24, a25, a26, a27, a28, a29, a30, a31, a32, a33, a34⟩ := u
  unfold wpX_clamp
  dsimp only
  exact cm_w h
theorem y_clamp {post : Int32 → Prop} {u : SY} {v lo hi : Int32} (h : post (cm_ v lo hi)) : wpY_clamp post u v lo hi := by
  obtain ⟨a1, a2, a3, a4, a5, a6, a7, a8, a9, a10, a11, a12, a13, a14, a15, a16, a17, a18, a19, a20, a21, a22, a23, a24, a25, a26, a27⟩ := u
  unfold wpY_clamp
  dsimp only
  exact cm_w h
def fm_ (i : Nat) : Nat → Int32 := fun j => if j < i then -1 else 0
def fo_ (i : Nat) : Nat → Int32 := fun j => if j < i then 1 else 0
theorem fm_0 : (fun _ => 0) = fm_ 0 := by
  funext j
  exact (if_neg (by omega)).symm
theorem fo_0 : (fun _ => 0) = fo_ 0 := by
  funext j
  exact (if_neg (by omega)).symm
theorem fm_s (i : Nat) : upd (fm_ i) i (-1) = fm_ (i + 1) := by
  funext j
  simp only [upd, fm_]
  by_cases z : j = i
  · rw [if_pos z, if_pos (by omega)]
  · rw [if_neg z]
    by_cases y : j < i
    · rw [if_pos y, if_pos (by omega)]
    · rw [if_neg y, if_neg (by omega)]
theorem fo_s (i : Nat) : upd (fo_ i) i 1 = fo_ (i + 1) := by
  funext j
  simp only [upd, fo_]
  by_cases z : j = i
  · rw [if_pos z, if_pos (by omega)]
  · rw [if_neg z]
    by_cases y : j < i
    · rw [if_pos y, if_pos (by omega)]
    · rw [if_neg y, if_neg (by omega)]
theorem fz_s (i : Nat) : upd (fun _ => 0) i 0 = fun _ => 0 := by
  funext j
  simp only [upd]
  split <;> rfl
theorem fz_sL (i : Nat) : vp_updL (fun _ => 0) i 0 = fun _ => 0 := by
  funext j
  simp only [vp_updL]
  split <;> rfl
def ga_ (N : Nat) : Nat → Nat → Int32
  | 0 => fun _ => 0
  | k + 1 => rg_ (ga_ N k) k (od_l N k)
theorem ga_at {N k p : Nat} (h3 : 3 ≤ N) (h6 : N ≤ 6) (hp : p < N) : ∀ {M : Nat}, k < M → M ≤ 4 → ga_ N M (k * 6 + p) = nI (od_ N k p)
  | 0, h, _ => by omega
  | M + 1, h, hM => by
    have t := (od_tab h3 h6 (k := M) (by omega)).1
    simp only [ga_, rg_]
    by_cases z : k = M
    · subst z
      rw [if_pos (by omega), show k * 6 + p - k * 6 = p from by omega]
      rfl
    · rw [if_neg (by omega)]
      exact ga_at h3 h6 hp (by omega) (by omega)
section
variable {N R K : Nat} {xlt xls xlc : Int64} {xrq xwq xpc : Int32} {xal xrg xkw xac xlv xrs xrk xry xro xra xrn xan xmk xmf xmt xmy xmg xmc xpn : Nat → Int32} {xlp xst xhi xcx xaw xms : Nat → Int64}
theorem x_i343 {post : SX → Prop} (h : post (xlt, nI N, nI R, xrq, xwq, xpc, xls, xlc, nI K, xal, xrg, xkw, xac, xlv, xlp, xst, xhi, xcx, xrs, xrk, xry, xro, xra, xrn, xan, xaw, fun _ => 0, fm_ 24, fm_ 24, fm_ 24, fm_ 24, fm_ 24, fun _ => 0, xpn)) : ∀ d i m, i + d = 24 → wX_init_343 post (m + d + 1) (nI i) xlt (nI N) (nI R) xrq xwq xpc xls xlc (nI K) xal xrg xkw xac xlv xlp xst xhi xcx xrs xrk xry xro xra xrn xan xaw (fun _ => 0) (fm_ i) (fm_ i) (fm_ i) (fm_ i) (fm_ i) (fun _ => 0) xpn := by
  intro d
  induction d with
  | zero =>
    intro i m e
    have e6 : i = 24 := by omega
    subst e6
    exact br_t (nI_le (Nat.le_refl 24) (by decide)) h
  | succ d ih =>
    intro i m e
    rw [wX_init_343]
    refine br_f (nI_ge (b := 24) (by omega) (by decide)) (x_free (by omega) ?_)
    rw [fz_s, fz_sL, fm_s]
    exact nm_r (nI_1 i) (ih (i + 1) m (by omega))
theorem x_i312 {post : SX → Prop} (h : ∃ n343, wX_init_343 post n343 0 xlt (nI N) (nI R) xrq xwq xpc xls xlc (nI K) xal xrg xkw xac xlv xlp xst xhi xcx xrs xrk (fm_ 4) (fm_ 4) xra xrn xan xaw xmk xmf xmt xmy xmg xmc xms xpn) : ∀ d i m, i + d = 4 → wX_init_312 post xlt (nI N) (nI R) xrq xwq xpc xls xlc (nI K) (m + d + 1) (nI i) xal xrg xkw xac xlv xlp xst xhi xcx xrs xrk (fm_ i) (fm_ i) xra xrn xan xaw xmk xmf xmt xmy xmg xmc xms xpn := by
  intro d
  induction d with
  | zero =>
    intro i m e
    have e6 : i = 4 := by omega
    subst e6
    exact br_t (nI_le (Nat.le_refl 4) (by decide)) h
  | succ d ih =>
    intro i m e
    have v : vp_in (nI i) 4 := vp_in_nI (by omega) (by decide)
    rw [wX_init_312]
    dsimp only
    rw [nI_clamp (n := i) (by omega)]
    exact br_f (nI_ge (b := 4) (by omega) (by decide)) ⟨v, nm_r (fm_s i) ⟨v, nm_r (fm_s i) (nm_r (nI_1 i) (ih (i + 1) m (by omega)))⟩⟩
theorem x_i291 {post : SX → Prop} (h3 : 3 ≤ N) (h6 : N ≤ 6) (h : ∃ n312, wX_init_312 post xlt (nI N) (nI R) xrq xwq xpc xls xlc (nI K) n312 0 xal (ga_ N 4) xkw xac xlv xlp xst xhi xcx xrs xrk xry xro xra xrn xan xaw xmk xmf xmt xmy xmg xmc xms xpn) : ∀ d i m, i + d = 4 → wX_init_291 post (m + d + 1) (nI i) xlt (nI N) (nI R) xrq xwq xpc xls xlc (nI K) xal (ga_ N i) xkw xac xlv xlp xst xhi xcx xrs xrk xry xro xra xrn xan xaw xmk xmf xmt xmy xmg xmc xms xpn := by
  intro d
  induction d with
  | zero =>
    intro i m e
    have e6 : i = 4 := by omega
    subst e6
    exact br_t (nI_le (Nat.le_refl 4) (by decide)) h
  | succ d ih =>
    intro i m e
    rw [wX_init_291]
    exact br_f (nI_ge (b := 4) (by omega) (by decide)) (x_lay h3 h6 (by omega) (nm_r (nI_1 i) (ih (i + 1) m (by omega))))
theorem x_i265 {post : SX → Prop} (h6 : N ≤ 6) (h : ∃ n291, wX_init_291 post n291 0 xlt (nI N) (nI R) xrq xwq xpc xls xlc (nI K) (fo_ N) xrg xkw xac xlv xlp xst xhi xcx xrs xrk xry xro xra xrn xan xaw xmk xmf xmt xmy xmg xmc xms xpn) : ∀ d i m, i + d = N → wX_init_265 post xlt (nI N) (nI R) xrq xwq xpc xls xlc (nI K) (m + d + 1) (nI i) (fo_ i) xrg xkw xac xlv xlp xst xhi xcx xrs xrk xry xro xra xrn xan xaw xmk xmf xmt xmy xmg xmc xms xpn := by
  intro d
  induction d with
  | zero =>
    intro i m e
    have e6 : i = N := by omega
    subst e6
    exact br_t (nI_le (Nat.le_refl _) (by omega)) h
  | succ d ih =>
    intro i m e
    have v : vp_in (nI i) 6 := vp_in_nI (by omega) (by decide)
    rw [wX_init_265]
    dsimp only
    rw [nI_clamp (n := i) (by omega)]
    exact br_f (nI_ge (by omega) (by omega)) ⟨v, nm_r (fo_s i) (nm_r (nI_1 i) (ih (i + 1) m (by omega)))⟩
end
section
variable {N R K : Nat} {xrq xwq : Int32} {ybi xkw ywn ywm ywv yal xrs xrk xry xro xra xrn xan xmk ymf ymt ymy ymg xmc yme yph ypn : Nat → Int32}
theorem y_i290 {post : SY → Prop} (h : post (nI K, nI N, nI R, xrq, xwq, ybi, xkw, ywn, ywm, ywv, yal, xrs, xrk, xry, xro, xra, xrn, xan, xmk, ymf, ymt, ymy, ymg, fm_ 24, yme, yph, ypn)) : ∀ d i m, i + d = 24 → wY_init_290 post (nI K) (nI N) (nI R) xrq xwq (m + d + 1) (nI i) ybi xkw ywn ywm ywv yal xrs xrk xry xro xra xrn xan xmk ymf ymt ymy ymg (fm_ i) yme yph ypn := by
  intro d
  induction d with
  | zero =>
    intro i m e
    have e6 : i = 24 := by omega
    subst e6
    exact br_t (nI_le (Nat.le_refl 24) (by decide)) h
  | succ d ih =>
    intro i m e
    have v : vp_in (nI i) 24 := vp_in_nI (by omega) (by decide)
    rw [wY_init_290]
    dsimp only
    rw [nI_clamp (n := i) (by omega)]
    exact br_f (nI_ge (b := 24) (by omega) (by decide)) ⟨v, nm_r (fm_s i) (nm_r (nI_1 i) (ih (i + 1) m (by omega)))⟩
theorem y_i259 {post : SY → Prop} (h : ∃ n290, wY_init_290 post (nI K) (nI N) (nI R) xrq xwq n290 0 ybi xkw ywn ywm ywv yal xrs xrk (fm_ 4) (fm_ 4) xra xrn xan xmk ymf ymt ymy ymg xmc yme yph ypn) : ∀ d i m, i + d = 4 → wY_init_259 post (nI K) (nI N) (nI R) xrq xwq (m + d + 1) (nI i) ybi xkw ywn ywm ywv yal xrs xrk (fm_ i) (fm_ i) xra xrn xan xmk ymf ymt ymy ymg xmc yme yph ypn := by
  intro d
  induction d with
  | zero =>
    intro i m e
    have e6 : i = 4 := by omega
    subst e6
    exact br_t (nI_le (Nat.le_refl 4) (by decide)) h
  | succ d ih =>
    intro i m e
    have v : vp_in (nI i) 4 := vp_in_nI (by omega) (by decide)
    rw [wY_init_259]
    dsimp only
    rw [nI_clamp (n := i) (by omega)]
    exact br_f (nI_ge (b := 4) (by omega) (by decide)) ⟨v, nm_r (fm_s i) ⟨v, nm_r (fm_s i) (nm_r (nI_1 i) (ih (i + 1) m (by omega)))⟩⟩
theorem y_i235 {post : SY → Prop} (h : ∃ n259, wY_init_259 post (nI K) (nI N) (nI R) xrq xwq n259 0 ybi xkw ywn ywm ywv (fo_ 6) xrs xrk xry xro xra xrn xan xmk ymf ymt ymy ymg xmc yme yph ypn) : ∀ d i m, i + d = 6 → wY_init_235 post (nI K) (nI N) (nI R) xrq xwq (m + d + 1) (nI i) ybi xkw ywn ywm ywv (fo_ i) xrs xrk xry xro xra xrn xan xmk ymf ymt ymy ymg xmc yme yph ypn := by
  intro d
  induction d with
  | zero =>
    intro i m e
    have e6 : i = 6 := by omega
    subst e6
    exact br_t (nI_le (Nat.le_refl 6) (by decide)) h
  | succ d ih =>
    intro i m e
    have v : vp_in (nI i) 6 := vp_in_nI (by omega) (by decide)
    rw [wY_init_235]
    dsimp only
    rw [nI_clamp (n := i) (by omega)]
    exact br_f (nI_ge (b := 6) (by omega) (by decide)) ⟨v, nm_r (fo_s i) (nm_r (nI_1 i) (ih (i + 1) m (by omega)))⟩
end
theorem rr_z {k r : Nat} : rr_ (fun _ => 0) (fun _ _ => 0) (fun _ => 0) k 0 r := rs_cg rs_0 (fun i _ => ⟨fun w => w rfl, fun w => w.elim⟩)
theorem q_init {N R : Nat} (hz : rz_ N R) : QR 4 N R 0 (fun _ => 0) (fun _ _ => 0) 0 0 (fo_ N) (ga_ N 4) (fun _ => 0) (fun _ => 0) (fun _ => 0) (fun _ => 0) (fun _ => 0) (fun _ => 0) (fun _ => 0) (fun _ => 0) (fm_ 4) (fm_ 4) (fun _ => 0) (fun _ => 0) (fun _ => 0) (fm_ 24) (fm_ 24) (fm_ 24) (fm_ 24) (fm_ 24) (fun _ => 0) (fun _ => 0) (fun _ => 0) (fun _ => 0) (fun _ => 0) (fo_ 6) (fun _ => 0) (fun _ => 0) (fun _ => 0) (fun _ => 0) := by
  have h6 := hz.2.1
  refine q_mk hz (fun n hn => ?_) (fun k hk p hp => ga_at hz.1 hz.2.1 hp hk (Nat.le_refl _)) (fun k hk => ⟨Nat.zero_le _, fun i hi => absurd hi (Nat.not_lt_zero _), rfl, fun i hi => absurd hi (Nat.not_lt_zero _), fun n hn => ⟨rfl, fun m hm => rs_cg rs_0 (fun i _ => ⟨fun ⟨y, y1, _⟩ => absurd y1 (Nat.not_lt_zero _), fun w => w.elim⟩)⟩⟩) ⟨fun _ => Or.inl rfl, fun _ _ => rfl⟩ ⟨fun _ _ => rr_z, fun _ _ => rr_z, fun _ _ => rr_z, fun k hk n hn => ln_0 n⟩ (fun s hs => ⟨fun _ => ⟨if_pos hs, if_pos hs, if_pos hs, if_pos hs, if_pos hs⟩, fun w => absurd rfl w⟩) (fun c hc => ⟨fun w => absurd w (by decide), fun _ _ _ _ => rfl⟩) (fun c hc n hn w => absurd rfl w) ⟨by decide, rr_z, rs_cg rs_0 (fun i _ => ⟨fun ⟨t, _, t2, _⟩ => absurd rfl t2, fun w => w.elim⟩)⟩
  show fo_ N n = fo_ 6 n
  unfold fo_
  rw [if_pos hn, if_pos (by omega)]
theorem i_vc0 (k0 : Int32) (k1 : Int32) (k2 : Int32) (k3 : Int32) : wpX_init (fun u => wpY_init (fun v => i_Rel 4 u v) k0 k1 k2 k3) k0 k1 k2 k3 := by
  obtain ⟨N, n1, n2, eN⟩ := cm_n k0 3 6 (by decide) (by decide)
  obtain ⟨R, r1, r2, eR⟩ := cm_n k1 1 N (by omega) (by omega)
  have eN' : cm_ k0 3 6 = nI N := eN
  have eR' : cm_ k1 1 (nI N) = nI R := eR
  have q := q_init (N := N) (R := R) ⟨n1, n2, r1, r2⟩
  have Y : wpY_init (fun v => i_Rel 4 (141289400074368, nI N, nI R, cm_ k2 1 (nI R), cm_ k3 1 (nI R), 0, 0, 0, nI 0, fo_ N, ga_ N 4, fun _ => 0, fun _ => 0, fun _ => 0, fun _ => 0, fun _ => 0, fun _ => 0, fun _ => 0, fun _ => 0, fun _ => 0, fm_ 4, fm_ 4, fun _ => 0, fun _ => 0, fun _ => 0, fun _ => 0, fun _ => 0, fm_ 24, fm_ 24, fm_ 24, fm_ 24, fm_ 24, fun _ => 0, fun _ => 0) v) k0 k1 k2 k3 := by
    unfold wpY_init
    refine y_clamp ?_
    rw [eN']
    refine y_clamp ?_
    rw [eR']
    refine y_clamp (y_clamp ?_)
    have a := y_i235 (N := N) (R := R) (K := 0) (xrq := cm_ k2 1 (nI R)) (xwq := cm_ k3 1 (nI R)) (post := fun v => i_Rel 4 (141289400074368, nI N, nI R, cm_ k2 1 (nI R), cm_ k3 1 (nI R), 0, 0, 0, nI 0, fo_ N, ga_ N 4, fun _ => 0, fun _ => 0, fun _ => 0, fun _ => 0, fun _ => 0, fun _ => 0, fun _ => 0, fun _ => 0, fun _ => 0, fm_ 4, fm_ 4, fun _ => 0, fun _ => 0, fun _ => 0, fun _ => 0, fun _ => 0, fm_ 24, fm_ 24, fm_ 24, fm_ 24, fm_ 24, fun _ => 0, fun _ => 0) v) (ybi := fun _ => 0) (xkw := fun _ => 0) (ywn := fun _ => 0) (ywm := fun _ => 0) (ywv := fun _ => 0) (xrs := fun _ => 0) (xrk := fun _ => 0) (xry := fun _ => 0) (xro := fun _ => 0) (xra := fun _ => 0) (xrn := fun _ => 0) (xan := fun _ => 0) (xmk := fun _ => 0) (ymf := fun _ => 0) (ymt := fun _ => 0) (ymy := fun _ => 0) (ymg := fun _ => 0) (xmc := fun _ => 0) (yme := fun _ => 0) (yph := fun _ => 0) (ypn := fun _ => 0) ?_ 6 0 0 rfl
    · rw [← fo_0, nI_0] at a
      exact ⟨_, a⟩
    · have b := y_i259 (N := N) (R := R) (K := 0) (xrq := cm_ k2 1 (nI R)) (xwq := cm_ k3 1 (nI R)) (post := fun v => i_Rel 4 (141289400074368, nI N, nI R, cm_ k2 1 (nI R), cm_ k3 1 (nI R), 0, 0, 0, nI 0, fo_ N, ga_ N 4, fun _ => 0, fun _ => 0, fun _ => 0, fun _ => 0, fun _ => 0, fun _ => 0, fun _ => 0, fun _ => 0, fun _ => 0, fm_ 4, fm_ 4, fun _ => 0, fun _ => 0, fun _ => 0, fun _ => 0, fun _ => 0, fm_ 24, fm_ 24, fm_ 24, fm_ 24, fm_ 24, fun _ => 0, fun _ => 0) v) (ybi := fun _ => 0) (xkw := fun _ => 0) (ywn := fun _ => 0) (ywm := fun _ => 0) (ywv := fun _ => 0) (yal := fo_ 6) (xrs := fun _ => 0) (xrk := fun _ => 0) (xra := fun _ => 0) (xrn := fun _ => 0) (xan := fun _ => 0) (xmk := fun _ => 0) (ymf := fun _ => 0) (ymt := fun _ => 0) (ymy := fun _ => 0) (ymg := fun _ => 0) (xmc := fun _ => 0) (yme := fun _ => 0) (yph := fun _ => 0) (ypn := fun _ => 0) ?_ 4 0 0 rfl
      · rw [← fm_0, nI_0] at b
        exact ⟨_, b⟩
      · have c := y_i290 (N := N) (R := R) (K := 0) (xrq := cm_ k2 1 (nI R)) (xwq := cm_ k3 1 (nI R)) (post := fun v => i_Rel 4 (141289400074368, nI N, nI R, cm_ k2 1 (nI R), cm_ k3 1 (nI R), 0, 0, 0, nI 0, fo_ N, ga_ N 4, fun _ => 0, fun _ => 0, fun _ => 0, fun _ => 0, fun _ => 0, fun _ => 0, fun _ => 0, fun _ => 0, fun _ => 0, fm_ 4, fm_ 4, fun _ => 0, fun _ => 0, fun _ => 0, fun _ => 0, fun _ => 0, fm_ 24, fm_ 24, fm_ 24, fm_ 24, fm_ 24, fun _ => 0, fun _ => 0) v) (ybi := fun _ => 0) (xkw := fun _ => 0) (ywn := fun _ => 0) (ywm := fun _ => 0) (ywv := fun _ => 0) (yal := fo_ 6) (xrs := fun _ => 0) (xrk := fun _ => 0) (xry := fm_ 4) (xro := fm_ 4) (xra := fun _ => 0) (xrn := fun _ => 0) (xan := fun _ => 0) (xmk := fun _ => 0) (ymf := fun _ => 0) (ymt := fun _ => 0) (ymy := fun _ => 0) (ymg := fun _ => 0) (yme := fun _ => 0) (yph := fun _ => 0) (ypn := fun _ => 0) (zz_in q) 24 0 0 rfl
        rw [nI_0] at c
        have e0 : fm_ 0 = fun _ => 0 := fm_0.symm
        rw [e0] at c
        exact ⟨_, c⟩
  unfold wpX_init
  refine x_clamp ?_
  rw [eN']
  refine x_clamp ?_
  rw [eR']
  refine x_clamp (x_clamp ?_)
  have a := x_i265 (N := N) (R := R) (K := 0) (xlt := 141289400074368) (xls := 0) (xlc := 0) (xpc := 0) (xrq := cm_ k2 1 (nI R)) (xwq := cm_ k3 1 (nI R)) (post := fun u => wpY_init (fun v => i_Rel 4 u v) k0 k1 k2 k3) (xrg := fun _ => 0) (xkw := fun _ => 0) (xac := fun _ => 0) (xlv := fun _ => 0) (xlp := fun _ => 0) (xst := fun _ => 0) (xhi := fun _ => 0) (xcx := fun _ => 0) (xrs := fun _ => 0) (xrk := fun _ => 0) (xry := fun _ => 0) (xro := fun _ => 0) (xra := fun _ => 0) (xrn := fun _ => 0) (xan := fun _ => 0) (xaw := fun _ => 0) (xmk := fun _ => 0) (xmf := fun _ => 0) (xmt := fun _ => 0) (xmy := fun _ => 0) (xmg := fun _ => 0) (xmc := fun _ => 0) (xms := fun _ => 0) (xpn := fun _ => 0) n2 ?_ N 0 0 (by omega)
  · rw [← fo_0, nI_0] at a
    exact ⟨_, a⟩
  · have b := x_i291 (N := N) (R := R) (K := 0) (xlt := 141289400074368) (xls := 0) (xlc := 0) (xpc := 0) (xrq := cm_ k2 1 (nI R)) (xwq := cm_ k3 1 (nI R)) (post := fun u => wpY_init (fun v => i_Rel 4 u v) k0 k1 k2 k3) (xal := fo_ N) (xkw := fun _ => 0) (xac := fun _ => 0) (xlv := fun _ => 0) (xlp := fun _ => 0) (xst := fun _ => 0) (xhi := fun _ => 0) (xcx := fun _ => 0) (xrs := fun _ => 0) (xrk := fun _ => 0) (xry := fun _ => 0) (xro := fun _ => 0) (xra := fun _ => 0) (xrn := fun _ => 0) (xan := fun _ => 0) (xaw := fun _ => 0) (xmk := fun _ => 0) (xmf := fun _ => 0) (xmt := fun _ => 0) (xmy := fun _ => 0) (xmg := fun _ => 0) (xmc := fun _ => 0) (xms := fun _ => 0) (xpn := fun _ => 0) n1 n2 ?_ 4 0 0 rfl
    · rw [nI_0] at b
      exact ⟨_, b⟩
    · have c := x_i312 (N := N) (R := R) (K := 0) (xlt := 141289400074368) (xls := 0) (xlc := 0) (xpc := 0) (xrq := cm_ k2 1 (nI R)) (xwq := cm_ k3 1 (nI R)) (post := fun u => wpY_init (fun v => i_Rel 4 u v) k0 k1 k2 k3) (xal := fo_ N) (xrg := ga_ N 4) (xkw := fun _ => 0) (xac := fun _ => 0) (xlv := fun _ => 0) (xlp := fun _ => 0) (xst := fun _ => 0) (xhi := fun _ => 0) (xcx := fun _ => 0) (xrs := fun _ => 0) (xrk := fun _ => 0) (xra := fun _ => 0) (xrn := fun _ => 0) (xan := fun _ => 0) (xaw := fun _ => 0) (xmk := fun _ => 0) (xmf := fun _ => 0) (xmt := fun _ => 0) (xmy := fun _ => 0) (xmg := fun _ => 0) (xmc := fun _ => 0) (xms := fun _ => 0) (xpn := fun _ => 0) ?_ 4 0 0 rfl
      · rw [← fm_0, nI_0] at c
        exact ⟨_, c⟩
      · have d := x_i343 (N := N) (R := R) (K := 0) (xlt := 141289400074368) (xls := 0) (xlc := 0) (xpc := 0) (xrq := cm_ k2 1 (nI R)) (xwq := cm_ k3 1 (nI R)) (post := fun u => wpY_init (fun v => i_Rel 4 u v) k0 k1 k2 k3) (xal := fo_ N) (xrg := ga_ N 4) (xkw := fun _ => 0) (xac := fun _ => 0) (xlv := fun _ => 0) (xlp := fun _ => 0) (xst := fun _ => 0) (xhi := fun _ => 0) (xcx := fun _ => 0) (xrs := fun _ => 0) (xrk := fun _ => 0) (xry := fm_ 4) (xro := fm_ 4) (xra := fun _ => 0) (xrn := fun _ => 0) (xan := fun _ => 0) (xaw := fun _ => 0) (xpn := fun _ => 0) Y 24 0 0 rfl
        have e0 : fm_ 0 = fun _ => 0 := fm_0.symm
        rw [nI_0, e0] at d
        exact ⟨_, d⟩
end
section
/-! what is owed -/
theorem i_vc_put {k : Nat} {u : SX} {v : SY} (I : i_Rel k u v) (hk : k + 5 ≤ 2564) (v1 : Int32) (v2 : Int32) (v3 : Int32) (v4 : Int32) : wpX_put (fun r u' => wpY_put (fun r' v' => r' = r ∧ i_Rel (k + 5) u' v') v v1 v2 v3 v4) u v1 v2 v3 v4 :=
  zz_el (P := fun u v => wpX_put (fun r u' => wpY_put (fun r' v' => r' = r ∧ i_Rel (k + 5) u' v') v v1 v2 v3 v4) u v1 v2 v3 v4) (fun _ _ _ _ _ _ _ _ _ _ _ _ _ _ _ _ _ _ _ _ _ _ _ _ _ _ _ _ _ _ _ _ _ _ _ _ _ _ _ _ _ _ _ _ _ _ _ _ q => m_put q v1 v2 v3 v4) I
theorem i_vc_get {k : Nat} {u : SX} {v : SY} (I : i_Rel k u v) (hk : k + 5 ≤ 2564) (v1 : Int32) (v2 : Int32) (v3 : Int32) : wpX_get (fun r u' => wpY_get (fun r' v' => r' = r ∧ i_Rel (k + 5) u' v') v v1 v2 v3) u v1 v2 v3 :=
  zz_el (P := fun u v => wpX_get (fun r u' => wpY_get (fun r' v' => r' = r ∧ i_Rel (k + 5) u' v') v v1 v2 v3) u v1 v2 v3) (fun _ _ _ _ _ _ _ _ _ _ _ _ _ _ _ _ _ _ _ _ _ _ _ _ _ _ _ _ _ _ _ _ _ _ _ _ _ _ _ _ _ _ _ _ _ _ _ _ q => m_get q v1 v2 v3) I
theorem i_vc_deliver {k : Nat} {u : SX} {v : SY} (I : i_Rel k u v) (hk : k + 5 ≤ 2564) (v1 : Int32) : wpX_deliver (fun r u' => wpY_deliver (fun r' v' => r' = r ∧ i_Rel (k + 5) u' v') v v1) u v1 :=
  zz_el (P := fun u v => wpX_deliver (fun r u' => wpY_deliver (fun r' v' => r' = r ∧ i_Rel (k + 5) u' v') v v1) u v1) (fun _ _ _ _ _ _ _ _ _ _ _ _ _ _ _ _ _ _ _ _ _ _ _ _ _ _ _ _ _ _ _ _ _ _ _ _ _ _ _ _ _ _ _ _ _ _ _ _ q => m_deliver q v1) I
theorem i_vc_lose {k : Nat} {u : SX} {v : SY} (I : i_Rel k u v) (hk : k + 5 ≤ 2564) (v1 : Int32) : wpX_lose (fun r u' => wpY_lose (fun r' v' => r' = r ∧ i_Rel (k + 5) u' v') v v1) u v1 :=
  zz_el (P := fun u v => wpX_lose (fun r u' => wpY_lose (fun r' v' => r' = r ∧ i_Rel (k + 5) u' v') v v1) u v1) (fun _ _ _ _ _ _ _ _ _ _ _ _ _ _ _ _ _ _ _ _ _ _ _ _ _ _ _ _ _ _ _ _ _ _ _ _ _ _ _ _ _ _ _ _ _ _ _ _ q => m_lose q v1) I
theorem i_vc_down {k : Nat} {u : SX} {v : SY} (I : i_Rel k u v) (hk : k + 5 ≤ 2564) (v1 : Int32) : wpX_down (fun r u' => wpY_down (fun r' v' => r' = r ∧ i_Rel (k + 5) u' v') v v1) u v1 :=
  zz_el (P := fun u v => wpX_down (fun r u' => wpY_down (fun r' v' => r' = r ∧ i_Rel (k + 5) u' v') v v1) u v1) (fun _ _ _ _ _ _ _ _ _ _ _ _ _ _ _ _ _ _ _ _ _ _ _ _ _ _ _ _ _ _ _ _ _ _ _ _ _ _ _ _ _ _ _ _ _ _ _ _ q => m_down q v1) I
theorem i_vc_up {k : Nat} {u : SX} {v : SY} (I : i_Rel k u v) (hk : k + 5 ≤ 2564) (v1 : Int32) : wpX_up (fun r u' => wpY_up (fun r' v' => r' = r ∧ i_Rel (k + 5) u' v') v v1) u v1 :=
  zz_el (P := fun u v => wpX_up (fun r u' => wpY_up (fun r' v' => r' = r ∧ i_Rel (k + 5) u' v') v v1) u v1) (fun _ _ _ _ _ _ _ _ _ _ _ _ _ _ _ _ _ _ _ _ _ _ _ _ _ _ _ _ _ _ _ _ _ _ _ _ _ _ _ _ _ _ _ _ _ _ _ _ q => m_up q v1) I
theorem i_vc_handoff {k : Nat} {u : SX} {v : SY} (I : i_Rel k u v) (hk : k + 5 ≤ 2564) (v1 : Int32) : wpX_handoff (fun r u' => wpY_handoff (fun r' v' => r' = r ∧ i_Rel (k + 5) u' v') v v1) u v1 :=
  zz_el (P := fun u v => wpX_handoff (fun r u' => wpY_handoff (fun r' v' => r' = r ∧ i_Rel (k + 5) u' v') v v1) u v1) (fun _ _ _ _ _ _ _ _ _ _ _ _ _ _ _ _ _ _ _ _ _ _ _ _ _ _ _ _ _ _ _ _ _ _ _ _ _ _ _ _ _ _ _ _ _ _ _ _ q => m_handoff q v1) I
theorem i_vc_abandon {k : Nat} {u : SX} {v : SY} (I : i_Rel k u v) (hk : k + 5 ≤ 2564) (v1 : Int32) : wpX_abandon (fun r u' => wpY_abandon (fun r' v' => r' = r ∧ i_Rel (k + 5) u' v') v v1) u v1 :=
  zz_el (P := fun u v => wpX_abandon (fun r u' => wpY_abandon (fun r' v' => r' = r ∧ i_Rel (k + 5) u' v') v v1) u v1) (fun _ _ _ _ _ _ _ _ _ _ _ _ _ _ _ _ _ _ _ _ _ _ _ _ _ _ _ _ _ _ _ _ _ _ _ _ _ _ _ _ _ _ _ _ _ _ _ _ q => m_abandon q v1) I
theorem i_vc_forget {k : Nat} {u : SX} {v : SY} (I : i_Rel k u v) (hk : k + 5 ≤ 2564) (v1 : Int32) (v2 : Int32) : wpX_forget (fun r u' => wpY_forget (fun r' v' => r' = r ∧ i_Rel (k + 5) u' v') v v1 v2) u v1 v2 :=
  zz_el (P := fun u v => wpX_forget (fun r u' => wpY_forget (fun r' v' => r' = r ∧ i_Rel (k + 5) u' v') v v1 v2) u v1 v2) (fun _ _ _ _ _ _ _ _ _ _ _ _ _ _ _ _ _ _ _ _ _ _ _ _ _ _ _ _ _ _ _ _ _ _ _ _ _ _ _ _ _ _ _ _ _ _ _ _ q => m_forget q v1 v2) I
theorem i_vc_request {k : Nat} {u : SX} {v : SY} (I : i_Rel k u v) (hk : k + 5 ≤ 2564) (v1 : Int32) (v2 : Int32) : wpX_request (fun r => wpY_request (fun r' => r' = r ∧ i_Rel (k + 5) u v) v v1 v2) u v1 v2 :=
  zz_el (P := fun u v => wpX_request (fun r => wpY_request (fun r' => r' = r ∧ i_Rel (k + 5) u v) v v1 v2) u v1 v2) (fun _ _ _ _ _ _ _ _ _ _ _ _ _ _ _ _ _ _ _ _ _ _ _ _ _ _ _ _ _ _ _ _ _ _ _ _ _ _ _ _ _ _ _ _ _ _ _ _ q => m_request q v1 v2) I
theorem i_vc_message {k : Nat} {u : SX} {v : SY} (I : i_Rel k u v) (hk : k + 5 ≤ 2564) (v1 : Int32) (v2 : Int32) : wpX_message (fun r => wpY_message (fun r' => r' = r ∧ i_Rel (k + 5) u v) v v1 v2) u v1 v2 :=
  zz_el (P := fun u v => wpX_message (fun r => wpY_message (fun r' => r' = r ∧ i_Rel (k + 5) u v) v v1 v2) u v1 v2) (fun _ _ _ _ _ _ _ _ _ _ _ _ _ _ _ _ _ _ _ _ _ _ _ _ _ _ _ _ _ _ _ _ _ _ _ _ _ _ _ _ _ _ _ _ _ _ _ _ q => m_message q v1 v2) I
theorem i_vc_look {k : Nat} {u : SX} {v : SY} (I : i_Rel k u v) (hk : k + 5 ≤ 2564) (v1 : Int32) (v2 : Int32) (v3 : Int32) (v4 : Int32) : wpX_look (fun r u' => wpY_look (fun r' v' => r' = r ∧ i_Rel (k + 5) u' v') v v1 v2 v3 v4) u v1 v2 v3 v4 :=
  zz_el (P := fun u v => wpX_look (fun r u' => wpY_look (fun r' v' => r' = r ∧ i_Rel (k + 5) u' v') v v1 v2 v3 v4) u v1 v2 v3 v4) (fun _ _ _ _ _ _ _ _ _ _ _ _ _ _ _ _ _ _ _ _ _ _ _ _ _ _ _ _ _ _ _ _ _ _ _ _ _ _ _ _ _ _ _ _ _ _ _ _ q => m_look q v1 v2 v3 v4) I
theorem i_vc_sibling {k : Nat} {u : SX} {v : SY} (I : i_Rel k u v) (hk : k + 5 ≤ 2564) (v1 : Int32) (v2 : Int32) : wpX_sibling (fun r => wpY_sibling (fun r' => r' = r ∧ i_Rel (k + 5) u v) v v1 v2) u v1 v2 :=
  zz_el (P := fun u v => wpX_sibling (fun r => wpY_sibling (fun r' => r' = r ∧ i_Rel (k + 5) u v) v v1 v2) u v1 v2) (fun _ _ _ _ _ _ _ _ _ _ _ _ _ _ _ _ _ _ _ _ _ _ _ _ _ _ _ _ _ _ _ _ _ _ _ _ _ _ _ _ _ _ _ _ _ _ _ _ q => m_sibling q v1 v2) I
theorem i_vc_known {k : Nat} {u : SX} {v : SY} (I : i_Rel k u v) (hk : k + 5 ≤ 2564) (v1 : Int32) : wpX_known (fun r => wpY_known (fun r' => r' = r ∧ i_Rel (k + 5) u v) v v1) u v1 :=
  zz_el (P := fun u v => wpX_known (fun r => wpY_known (fun r' => r' = r ∧ i_Rel (k + 5) u v) v v1) u v1) (fun _ _ _ _ _ _ _ _ _ _ _ _ _ _ _ _ _ _ _ _ _ _ _ _ _ _ _ _ _ _ _ _ _ _ _ _ _ _ _ _ _ _ _ _ _ _ _ _ q => m_known q v1) I
theorem i_vc_compare {k : Nat} {u : SX} {v : SY} (I : i_Rel k u v) (hk : k + 5 ≤ 2564) (v1 : Int32) (v2 : Int32) (v3 : Int32) : wpX_compare (fun r => wpY_compare (fun r' => r' = r ∧ i_Rel (k + 5) u v) v v1 v2 v3) u v1 v2 v3 :=
  zz_el (P := fun u v => wpX_compare (fun r => wpY_compare (fun r' => r' = r ∧ i_Rel (k + 5) u v) v v1 v2 v3) u v1 v2 v3) (fun _ _ _ _ _ _ _ _ _ _ _ _ _ _ _ _ _ _ _ _ _ _ _ _ _ _ _ _ _ _ _ _ _ _ _ _ _ _ _ _ _ _ _ _ _ _ _ _ q => m_compare q v1 v2 v3) I
theorem i_vc_debts {k : Nat} {u : SX} {v : SY} (I : i_Rel k u v) (hk : k + 5 ≤ 2564) (v1 : Int32) : wpX_debts (fun r => wpY_debts (fun r' => r' = r ∧ i_Rel (k + 5) u v) v v1) u v1 :=
  zz_el (P := fun u v => wpX_debts (fun r => wpY_debts (fun r' => r' = r ∧ i_Rel (k + 5) u v) v v1) u v1) (fun _ _ _ _ _ _ _ _ _ _ _ _ _ _ _ _ _ _ _ _ _ _ _ _ _ _ _ _ _ _ _ _ _ _ _ _ _ _ _ _ _ _ _ _ _ _ _ _ q => m_debts q v1) I
theorem i_vc_writes {k : Nat} {u : SX} {v : SY} (I : i_Rel k u v) (hk : k + 5 ≤ 2564) (v1 : Int32) : wpX_writes (fun r => wpY_writes (fun r' => r' = r ∧ i_Rel (k + 5) u v) v v1) u v1 :=
  zz_el (P := fun u v => wpX_writes (fun r => wpY_writes (fun r' => r' = r ∧ i_Rel (k + 5) u v) v v1) u v1) (fun _ _ _ _ _ _ _ _ _ _ _ _ _ _ _ _ _ _ _ _ _ _ _ _ _ _ _ _ _ _ _ _ _ _ _ _ _ _ _ _ _ _ _ _ _ _ _ _ q => m_writes q v1) I
theorem i_vc_order {k : Nat} {u : SX} {v : SY} (I : i_Rel k u v) (hk : k + 5 ≤ 2564) (v1 : Int32) (v2 : Int32) : wpX_order (fun r => wpY_order (fun r' v' => r' = r ∧ i_Rel (k + 5) u v') v v1 v2) u v1 v2 :=
  zz_el (P := fun u v => wpX_order (fun r => wpY_order (fun r' v' => r' = r ∧ i_Rel (k + 5) u v') v v1 v2) u v1 v2) (fun _ _ _ _ _ _ _ _ _ _ _ _ _ _ _ _ _ _ _ _ _ _ _ _ _ _ _ _ _ _ _ _ _ _ _ _ _ _ _ _ _ _ _ _ _ _ _ _ q => m_order q v1 v2) I
theorem i_vc_isUp {k : Nat} {u : SX} {v : SY} (I : i_Rel k u v) (hk : k + 5 ≤ 2564) (v1 : Int32) : wpX_isUp (fun r => wpY_isUp (fun r' => r' = r ∧ i_Rel (k + 5) u v) v v1) u v1 :=
  zz_el (P := fun u v => wpX_isUp (fun r => wpY_isUp (fun r' => r' = r ∧ i_Rel (k + 5) u v) v v1) u v1) (fun _ _ _ _ _ _ _ _ _ _ _ _ _ _ _ _ _ _ _ _ _ _ _ _ _ _ _ _ _ _ _ _ _ _ _ _ _ _ _ _ _ _ _ _ _ _ _ _ q => m_isUp q v1) I
theorem i_vc_setting {k : Nat} {u : SX} {v : SY} (I : i_Rel k u v) (hk : k + 5 ≤ 2564) (v1 : Int32) : wpX_setting (fun r => wpY_setting (fun r' => r' = r ∧ i_Rel (k + 5) u v) v v1) u v1 :=
  zz_el (P := fun u v => wpX_setting (fun r => wpY_setting (fun r' => r' = r ∧ i_Rel (k + 5) u v) v v1) u v1) (fun _ _ _ _ _ _ _ _ _ _ _ _ _ _ _ _ _ _ _ _ _ _ _ _ _ _ _ _ _ _ _ _ _ _ _ _ _ _ _ _ _ _ _ _ _ _ _ _ q => m_setting q v1) I
end
