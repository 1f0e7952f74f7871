section
/-! pure rows to paste: stores, nI and lN arithmetic, masks, shifts, narrowing, branches by naturals (pk_le, pk_lt, pk_eq), loops (lp1 .. lp16: the measure of the state; rp1 ..: recursion), negatives. Take what you need -/
theorem pk_us {f : Nat → Int32} {k : Nat} {x : Int32} : upd f k x k = x := if_pos rfl
theorem pk_un {f : Nat → Int32} {k j : Nat} {x : Int32} (h : j ≠ k) : upd f k x j = f j := if_neg h
theorem pk_uLs {f : Nat → Int64} {k : Nat} {x : Int64} : vp_updL f k x k = x := if_pos rfl
theorem pk_uLn {f : Nat → Int64} {k j : Nat} {x : Int64} (h : j ≠ k) : vp_updL f k x j = f j := if_neg h
theorem pk_sub {a b : Nat} (h : b ≤ a) : nI a - nI b = nI (a - b) := by
  obtain ⟨c, rfl⟩ : ∃ c, a = c + b := ⟨a - b, by omega⟩
  rw [← nI_add, Int32.add_sub_cancel, Nat.add_sub_cancel]
theorem pk_m1 (n : Nat) : nI (n + 1) + (-1) = nI n := by
  rw [← nI_1, Int32.add_assoc, show (1 : Int32) + (-1) = 0 from rfl, Int32.add_zero]
theorem pk_mul (a b : Nat) : nI a * nI b = nI (a * b) := (Int32.ofNat_mul a b).symm
theorem pk_div {a d : Nat} (ha : a < 2 ^ 31) (h0 : 0 < d) (hd : d < 2 ^ 31) : nI a / nI d = nI (a / d) := by
  apply Int32.toInt_inj.mp
  rw [lg_idiv_nonneg (by rw [nI_toInt ha]; omega) (by rw [nI_toInt hd]; omega), nI_toInt ha, nI_toInt hd, nI_toInt (Nat.lt_of_le_of_lt (Nat.div_le_self a d) ha)]
  first | rfl | exact (Int.natCast_ediv _ _).symm
theorem pk_rem {a d : Nat} (ha : a < 2 ^ 31) (h0 : 0 < d) (hd : d < 2 ^ 31) : nI a - nI a / nI d * nI d = nI (a % d) := by
  rw [pk_div ha h0 hd, pk_mul, pk_sub (Nat.div_mul_le_self a d)]
  exact congrArg nI (by have := Nat.div_add_mod' a d; omega)
theorem pk_sub_toInt {a b : Nat} (ha : a < 2 ^ 30) (hb : b < 2 ^ 30) : (nI a - nI b).toInt = (a : Int) - b := by
  rw [Int32.toInt_sub, nI_toInt (by omega), nI_toInt (by omega)]
  exact Int.bmod_eq_of_le (by omega) (by omega)
theorem pk_sneg {a b : Nat} (hb : b < 2 ^ 30) (h : a < b) : nI a - nI b < 0 := by
  rw [Int32.lt_iff_toInt_lt, pk_sub_toInt (by omega) hb, show (0 : Int32).toInt = 0 from by decide]
  omega
theorem pk_ix (x : Int32) {n : Nat} (hn : n < 2 ^ 31) : x < 0 ∨ nI n ≤ x ∨ ∃ j : Nat, j < n ∧ x = nI j := by
  by_cases h : x < 0
  · exact Or.inl h
  · obtain ⟨j, hj, rfl⟩ := nI_of h
    by_cases h2 : j < n
    · exact Or.inr (Or.inr ⟨j, h2, rfl⟩)
    · exact Or.inr (Or.inl (nI_le (by omega) hj))
theorem pk_le {x y : Int32} {A B : Prop} (a b : Nat) (f : a ≤ b → A) (g : b < a → B) (hx : x = nI a := by rfl) (hy : y = nI b := by rfl) (ha : a < 2 ^ 31 := by omega) (hb : b < 2 ^ 31 := by omega) : (x ≤ y → A) ∧ (¬ x ≤ y → B) := by
  subst hx hy
  rw [nI_leI ha hb]
  exact ⟨f, fun z => g (by omega)⟩
theorem pk_lt {x y : Int32} {A B : Prop} (a b : Nat) (f : a < b → A) (g : b ≤ a → B) (hx : x = nI a := by rfl) (hy : y = nI b := by rfl) (ha : a < 2 ^ 31 := by omega) (hb : b < 2 ^ 31 := by omega) : (x < y → A) ∧ (¬ x < y → B) := by
  subst hx hy
  rw [nI_ltI ha hb]
  exact ⟨f, fun z => g (by omega)⟩
theorem pk_eq {x y : Int32} {A B : Prop} (a b : Nat) (f : a = b → A) (g : a ≠ b → B) (hx : x = nI a := by rfl) (hy : y = nI b := by rfl) (ha : a < 2 ^ 31 := by omega) (hb : b < 2 ^ 31 := by omega) : (x = y → A) ∧ (¬ x = y → B) := by
  subst hx hy
  rw [nI_eq ha hb]
  exact ⟨f, g⟩
theorem pk_in {x : Int32} (n N : Nat) (h : n < N) (hx : x = nI n := by rfl) (hN : N < 2 ^ 31 := by omega) : vp_in x N := by
  subst hx
  exact vp_in_nI h hN
theorem pk_cl {x : Int32} (n : Nat) (hx : x = nI n := by rfl) (h : n < 2 ^ 31 := by omega) : x.toNatClampNeg = n := by
  subst hx
  exact nI_clamp h
theorem pk_tn {n : Nat} (h : n < 2 ^ 32) : (nI n).toBitVec.toNat = n := Nat.mod_eq_of_lt h
theorem pk_and (x : Int32) {m : Int32} (k : Nat) (hm : m.toBitVec.toNat = 2 ^ k - 1) : x &&& m = nI (x.toBitVec.toNat % 2 ^ k) := by
  apply Int32.toBitVec_inj.mp
  apply BitVec.eq_of_toNat_eq
  rw [Int32.toBitVec_and, BitVec.toNat_and, hm, Nat.and_two_pow_sub_one_eq_mod]
  show _ = (BitVec.ofNat 32 _).toNat
  rw [BitVec.toNat_ofNat]
  exact (Nat.mod_eq_of_lt (Nat.lt_of_le_of_lt (Nat.mod_le _ _) x.toBitVec.isLt)).symm
theorem pk_andN {n : Nat} (h : n < 2 ^ 32) {m : Int32} (k : Nat) (hm : m.toBitVec.toNat = 2 ^ k - 1) : nI n &&& m = nI (n % 2 ^ k) := by
  rw [pk_and _ k hm, pk_tn h]
theorem pk_andE (x : Int32) {m : Int32} (k : Nat) (hm : m.toBitVec.toNat = 2 ^ k - 1) : ∃ j : Nat, j < 2 ^ k ∧ x &&& m = nI j := ⟨_, Nat.mod_lt _ (Nat.two_pow_pos k), pk_and x k hm⟩
theorem pk_andIn (x : Int32) {m : Int32} (k : Nat) (hm : m.toBitVec.toNat = 2 ^ k - 1) (hk : k ≤ 30) : vp_in (x &&& m) (2 ^ k) := by
  obtain ⟨j, hj, e⟩ := pk_andE x k hm
  rw [e]
  exact vp_in_nI hj (Nat.lt_of_le_of_lt (Nat.pow_le_pow_right (by decide) hk) (by decide))
theorem pk_shl (a s : Int32) (k : Nat) (hs : (s.toBitVec.smod 32).toNat = k) : (a <<< s).toBitVec.toNat = a.toBitVec.toNat * 2 ^ k % 2 ^ 32 := by
  show (a.toBitVec <<< (s.toBitVec.smod 32).toNat).toNat = _
  rw [hs, BitVec.toNat_shiftLeft, Nat.shiftLeft_eq]
theorem pk_shlN {n : Nat} (s : Int32) (k : Nat) (hs : (s.toBitVec.smod 32).toNat = k) (h : n * 2 ^ k < 2 ^ 32) : nI n <<< s = nI (n * 2 ^ k) := by
  apply Int32.toBitVec_inj.mp
  apply BitVec.eq_of_toNat_eq
  have hn : n < 2 ^ 32 := Nat.lt_of_le_of_lt (Nat.le_mul_of_pos_right n (Nat.two_pow_pos k)) h
  rw [pk_shl _ _ k hs, pk_tn hn, pk_tn h, Nat.mod_eq_of_lt h]
theorem pk_shr (a s : Int32) (k : Nat) (hs : (s.toBitVec.smod 32).toNat = k) : (a >>> s).toInt = a.toInt >>> k := by
  show (a.toBitVec.sshiftRight (s.toBitVec.smod 32).toNat).toInt = _
  rw [hs, BitVec.toInt_sshiftRight]
  rfl
theorem pk_shrN {n : Nat} (h : n < 2 ^ 31) (s : Int32) (k : Nat) (hs : (s.toBitVec.smod 32).toNat = k) : nI n >>> s = nI (n / 2 ^ k) := by
  apply Int32.toInt_inj.mp
  have h2 : n / 2 ^ k ≤ n := Nat.div_le_self _ _
  rw [pk_shr _ _ k hs, nI_toInt h, nI_toInt (by omega), Int.shiftRight_eq_div_pow]
  rfl
theorem pk_ushr (x s : Int32) (k : Nat) (hs : ((s.toUInt32 &&& Int32.toUInt32 31).toBitVec % 32).toNat = k) : (x.toUInt32 >>> (s.toUInt32 &&& Int32.toUInt32 31)).toInt32.toBitVec.toNat = x.toBitVec.toNat / 2 ^ k := by
  have e : (x.toUInt32 >>> (s.toUInt32 &&& Int32.toUInt32 31)).toInt32.toBitVec = x.toBitVec >>> k := by
    rw [← hs]
    exact UInt32.toBitVec_shiftRight _ _
  rw [e, BitVec.toNat_ushiftRight, Nat.shiftRight_eq_div_pow]
theorem pk_ushrN {n : Nat} (hn : n < 2 ^ 32) (s : Int32) (k : Nat) (hs : ((s.toUInt32 &&& Int32.toUInt32 31).toBitVec % 32).toNat = k) : ((nI n).toUInt32 >>> (s.toUInt32 &&& Int32.toUInt32 31)).toInt32 = nI (n / 2 ^ k) := by
  apply Int32.toBitVec_inj.mp
  apply BitVec.eq_of_toNat_eq
  rw [pk_ushr _ s k hs, pk_tn hn, pk_tn (Nat.lt_of_le_of_lt (Nat.div_le_self _ _) hn)]
theorem pk_nb (z : Int32) : narrow .byte (.int z.toInt8.toInt32) = .int z.toInt8.toInt32 := congrArg Value.int (by simp)
theorem pk_ns (z : Int32) : narrow .short (.int z.toInt16.toInt32) = .int z.toInt16.toInt32 := congrArg Value.int (by simp)
theorem pk_fb (r : Int32) : fits .byte (.int r.toInt8.toInt32) = true := by
  have ⟨a, b⟩ := lg_i2b_range r
  have h1 : (-128 : Int32).toInt = -128 := by decide
  have h2 : (127 : Int32).toInt = 127 := by decide
  simp only [fits, Bool.and_eq_true, decide_eq_true_eq, Int32.le_iff_toInt_le, h1, h2]
  omega
theorem pk_fs (r : Int32) : fits .short (.int r.toInt16.toInt32) = true := by
  have ⟨a, b⟩ := lg_i2s_range r
  have h1 : (-32768 : Int32).toInt = -32768 := by decide
  have h2 : (32767 : Int32).toInt = 32767 := by decide
  simp only [fits, Bool.and_eq_true, decide_eq_true_eq, Int32.le_iff_toInt_le, h1, h2]
  omega
theorem pk_charN {q : Nat} (hq : q < 65536) : narrow .char (.int (nI q)) = .int (nI q) ∧ fits .char (.int (nI q)) = true := by
  constructor
  · have e : (nI q).toUInt32.toUInt16.toUInt32.toInt32 = nI q := by
      apply Int32.toBitVec_inj.mp
      apply BitVec.eq_of_toNat_eq
      show (nI q).toUInt32.toUInt16.toUInt32.toNat = q % 2 ^ 32
      rw [UInt16.toNat_toUInt32, UInt32.toNat_toUInt16, show (nI q).toUInt32.toNat = q % 2 ^ 32 from rfl]
      omega
    exact congrArg Value.int e
  · have a : (0 : Int32) ≤ nI q := nI_pos' (by omega)
    have b : nI q ≤ 65535 := nI_le (b := 65535) (by omega) (by decide)
    show (decide ((0 : Int32) ≤ nI q) && decide (nI q ≤ 65535)) = true
    rw [decide_eq_true a, decide_eq_true b]
    rfl
theorem pk_char (x : Int32) : (x.toUInt32 % 65536).toInt32 = nI (x.toBitVec.toNat % 65536) := by
  apply Int32.toBitVec_inj.mp
  apply BitVec.eq_of_toNat_eq
  rw [pk_tn (by omega)]
  show (x.toUInt32 % 65536).toNat = _
  rw [UInt32.toNat_mod]
  rfl
theorem pk_nc (x : Int32) : narrow .char (.int (x.toUInt32 % 65536).toInt32) = .int (x.toUInt32 % 65536).toInt32 := by
  rw [pk_char]
  exact (pk_charN (Nat.mod_lt _ (by decide))).1
theorem pk_fc (x : Int32) : fits .char (.int (x.toUInt32 % 65536).toInt32) = true := by
  rw [pk_char]
  exact (pk_charN (Nat.mod_lt _ (by decide))).2
theorem pk_vb (z : Int32) : vp_nar .byte z.toInt8.toInt32 = z.toInt8.toInt32 := by rw [vp_nar_byte]; simp
theorem pk_vs (z : Int32) : vp_nar .short z.toInt16.toInt32 = z.toInt16.toInt32 := by rw [vp_nar_short]; simp
theorem pk_vc (z : Int32) : vp_nar .char (z.toUInt32 % 65536).toInt32 = (z.toUInt32 % 65536).toInt32 := Value.int.inj (pk_nc z)
theorem pk_lT {n : Nat} (h : n < 2 ^ 63) : (lN n).toInt = (n : Int) := lg_ofNat_toInt h
theorem pk_lLT {a b : Nat} (ha : a < 2 ^ 63) (hb : b < 2 ^ 63) : lN a < lN b ↔ a < b := by
  rw [Int64.lt_iff_toInt_lt, pk_lT ha, pk_lT hb]; omega
theorem pk_lLE {a b : Nat} (ha : a < 2 ^ 63) (hb : b < 2 ^ 63) : lN a ≤ lN b ↔ a ≤ b := by
  rw [Int64.le_iff_toInt_le, pk_lT ha, pk_lT hb]; omega
theorem pk_lEQ {a b : Nat} (ha : a < 2 ^ 63) (hb : b < 2 ^ 63) : lN a = lN b ↔ a = b := by
  rw [← Int64.toInt_inj, pk_lT ha, pk_lT hb]; omega
theorem pk_lOf {x : Int64} (h : ¬ x < 0) : ∃ k : Nat, k < 2 ^ 63 ∧ x = lN k := by
  rw [Int64.lt_iff_toInt_lt] at h
  have h0 : (0 : Int64).toInt = 0 := by decide
  have hx := Int64.toInt_lt x
  refine ⟨x.toInt.toNat, by omega, Int64.toInt_inj.mp ?_⟩
  rw [pk_lT (by omega)]
  omega
theorem pk_lDiv {a b : Nat} (ha : a < 2 ^ 63) (h0 : 0 < b) (hb : b < 2 ^ 63) : lN a / lN b = lN (a / b) := by
  apply Int64.toInt_inj.mp
  rw [lg_ldiv_nonneg (by rw [pk_lT ha]; omega) (by rw [pk_lT hb]; omega), pk_lT ha, pk_lT hb, pk_lT (Nat.lt_of_le_of_lt (Nat.div_le_self a b) ha)]
  rfl
theorem pk_lRem {a b : Nat} (ha : a < 2 ^ 63) (h0 : 0 < b) (hb : b < 2 ^ 63) : lN a - lN a / lN b * lN b = lN (a % b) := by
  rw [pk_lDiv ha h0 hb, lN_mul, lN_sub (Nat.div_mul_le_self a b)]
  exact congrArg lN (by have := Nat.div_add_mod' a b; omega)
theorem pk_loop {σ : Type} (W : Nat → Nat → σ → Prop) (I : Nat → σ → Prop) (e i0 : Nat) (s : σ) (hi : i0 ≤ e) (h0 : I i0 s) (hx : ∀ n s, I e s → W (n + 1) e s)
    (hs : ∀ n i s, i < e → I i s → (∀ s', I (i + 1) s' → W n (i + 1) s') → W (n + 1) i s) : ∃ n, W n i0 s :=
  ⟨e + 1, loop_i W I e hx hs (e + 1) i0 s hi (by omega) h0⟩
theorem pk_loopD {σ : Type} (W : Nat → Nat → σ → Prop) (I : Nat → σ → Prop) (hx : ∀ n s, I 0 s → W (n + 1) 0 s)
    (hs : ∀ n i s, I (i + 1) s → (∀ s', I i s' → W n i s') → W (n + 1) (i + 1) s) : ∀ (e : Nat) (s : σ), I e s → W (e + 1) e s := by
  intro e
  induction e with
  | zero => exact fun s h => hx 0 s h
  | succ e ih => exact fun s h => hs (e + 1) e s h (fun s' h' => ih s' h')
theorem lp1 {A1 : Type} (W : Nat → A1 → Prop) (I : A1 → Prop) (μ : A1 → Nat) (hs : ∀ (n : Nat) (a1 : A1), I a1 → (∀ (b1 : A1), I b1 → μ b1 < μ a1 → W n b1) → W (n + 1) a1) (a1 : A1) (h : I a1) : ∃ n, W n a1 :=
  loop_m (σ := A1) (fun n s => W n s) (fun s => I s) (fun s => μ s) (fun n s hI hk => hs n s hI (fun b1 h9 hm => hk b1 h9 hm)) a1 h
theorem lp2 {A1 A2 : Type} (W : Nat → A1 → A2 → Prop) (I : A1 → A2 → Prop) (μ : A1 → A2 → Nat) (hs : ∀ (n : Nat) (a1 : A1) (a2 : A2), I a1 a2 → (∀ (b1 : A1) (b2 : A2), I b1 b2 → μ b1 b2 < μ a1 a2 → W n b1 b2) → W (n + 1) a1 a2) (a1 : A1) (a2 : A2) (h : I a1 a2) : ∃ n, W n a1 a2 :=
  loop_m (σ := A1 × A2) (fun n s => W n s.1 s.2) (fun s => I s.1 s.2) (fun s => μ s.1 s.2) (fun n s hI hk => hs n s.1 s.2 hI (fun b1 b2 h9 hm => hk (b1, b2) h9 hm)) (a1, a2) h
theorem lp3 {A1 A2 A3 : Type} (W : Nat → A1 → A2 → A3 → Prop) (I : A1 → A2 → A3 → Prop) (μ : A1 → A2 → A3 → Nat) (hs : ∀ (n : Nat) (a1 : A1) (a2 : A2) (a3 : A3), I a1 a2 a3 → (∀ (b1 : A1) (b2 : A2) (b3 : A3), I b1 b2 b3 → μ b1 b2 b3 < μ a1 a2 a3 → W n b1 b2 b3) → W (n + 1) a1 a2 a3) (a1 : A1) (a2 : A2) (a3 : A3) (h : I a1 a2 a3) : ∃ n, W n a1 a2 a3 :=
  loop_m (σ := A1 × A2 × A3) (fun n s => W n s.1 s.2.1 s.2.2) (fun s => I s.1 s.2.1 s.2.2) (fun s => μ s.1 s.2.1 s.2.2) (fun n s hI hk => hs n s.1 s.2.1 s.2.2 hI (fun b1 b2 b3 h9 hm => hk (b1, b2, b3) h9 hm)) (a1, a2, a3) h
theorem lp4 {A1 A2 A3 A4 : Type} (W : Nat → A1 → A2 → A3 → A4 → Prop) (I : A1 → A2 → A3 → A4 → Prop) (μ : A1 → A2 → A3 → A4 → Nat) (hs : ∀ (n : Nat) (a1 : A1) (a2 : A2) (a3 : A3) (a4 : A4), I a1 a2 a3 a4 → (∀ (b1 : A1) (b2 : A2) (b3 : A3) (b4 : A4), I b1 b2 b3 b4 → μ b1 b2 b3 b4 < μ a1 a2 a3 a4 → W n b1 b2 b3 b4) → W (n + 1) a1 a2 a3 a4) (a1 : A1) (a2 : A2) (a3 : A3) (a4 : A4) (h : I a1 a2 a3 a4) : ∃ n, W n a1 a2 a3 a4 :=
  loop_m (σ := A1 × A2 × A3 × A4) (fun n s => W n s.1 s.2.1 s.2.2.1 s.2.2.2) (fun s => I s.1 s.2.1 s.2.2.1 s.2.2.2) (fun s => μ s.1 s.2.1 s.2.2.1 s.2.2.2) (fun n s hI hk => hs n s.1 s.2.1 s.2.2.1 s.2.2.2 hI (fun b1 b2 b3 b4 h9 hm => hk (b1, b2, b3, b4) h9 hm)) (a1, a2, a3, a4) h
theorem lp5 {A1 A2 A3 A4 A5 : Type} (W : Nat → A1 → A2 → A3 → A4 → A5 → Prop) (I : A1 → A2 → A3 → A4 → A5 → Prop) (μ : A1 → A2 → A3 → A4 → A5 → Nat) (hs : ∀ (n : Nat) (a1 : A1) (a2 : A2) (a3 : A3) (a4 : A4) (a5 : A5), I a1 a2 a3 a4 a5 → (∀ (b1 : A1) (b2 : A2) (b3 : A3) (b4 : A4) (b5 : A5), I b1 b2 b3 b4 b5 → μ b1 b2 b3 b4 b5 < μ a1 a2 a3 a4 a5 → W n b1 b2 b3 b4 b5) → W (n + 1) a1 a2 a3 a4 a5) (a1 : A1) (a2 : A2) (a3 : A3) (a4 : A4) (a5 : A5) (h : I a1 a2 a3 a4 a5) : ∃ n, W n a1 a2 a3 a4 a5 :=
  loop_m (σ := A1 × A2 × A3 × A4 × A5) (fun n s => W n s.1 s.2.1 s.2.2.1 s.2.2.2.1 s.2.2.2.2) (fun s => I s.1 s.2.1 s.2.2.1 s.2.2.2.1 s.2.2.2.2) (fun s => μ s.1 s.2.1 s.2.2.1 s.2.2.2.1 s.2.2.2.2) (fun n s hI hk => hs n s.1 s.2.1 s.2.2.1 s.2.2.2.1 s.2.2.2.2 hI (fun b1 b2 b3 b4 b5 h9 hm => hk (b1, b2, b3, b4, b5) h9 hm)) (a1, a2, a3, a4, a5) h
theorem lp6 {A1 A2 A3 A4 A5 A6 : Type} (W : Nat → A1 → A2 → A3 → A4 → A5 → A6 → Prop) (I : A1 → A2 → A3 → A4 → A5 → A6 → Prop) (μ : A1 → A2 → A3 → A4 → A5 → A6 → Nat) (hs : ∀ (n : Nat) (a1 : A1) (a2 : A2) (a3 : A3) (a4 : A4) (a5 : A5) (a6 : A6), I a1 a2 a3 a4 a5 a6 → (∀ (b1 : A1) (b2 : A2) (b3 : A3) (b4 : A4) (b5 : A5) (b6 : A6), I b1 b2 b3 b4 b5 b6 → μ b1 b2 b3 b4 b5 b6 < μ a1 a2 a3 a4 a5 a6 → W n b1 b2 b3 b4 b5 b6) → W (n + 1) a1 a2 a3 a4 a5 a6) (a1 : A1) (a2 : A2) (a3 : A3) (a4 : A4) (a5 : A5) (a6 : A6) (h : I a1 a2 a3 a4 a5 a6) : ∃ n, W n a1 a2 a3 a4 a5 a6 :=
  loop_m (σ := A1 × A2 × A3 × A4 × A5 × A6) (fun n s => W n s.1 s.2.1 s.2.2.1 s.2.2.2.1 s.2.2.2.2.1 s.2.2.2.2.2) (fun s => I s.1 s.2.1 s.2.2.1 s.2.2.2.1 s.2.2.2.2.1 s.2.2.2.2.2) (fun s => μ s.1 s.2.1 s.2.2.1 s.2.2.2.1 s.2.2.2.2.1 s.2.2.2.2.2) (fun n s hI hk => hs n s.1 s.2.1 s.2.2.1 s.2.2.2.1 s.2.2.2.2.1 s.2.2.2.2.2 hI (fun b1 b2 b3 b4 b5 b6 h9 hm => hk (b1, b2, b3, b4, b5, b6) h9 hm)) (a1, a2, a3, a4, a5, a6) h
theorem lp7 {A1 A2 A3 A4 A5 A6 A7 : Type} (W : Nat → A1 → A2 → A3 → A4 → A5 → A6 → A7 → Prop) (I : A1 → A2 → A3 → A4 → A5 → A6 → A7 → Prop) (μ : A1 → A2 → A3 → A4 → A5 → A6 → A7 → Nat) (hs : ∀ (n : Nat) (a1 : A1) (a2 : A2) (a3 : A3) (a4 : A4) (a5 : A5) (a6 : A6) (a7 : A7), I a1 a2 a3 a4 a5 a6 a7 → (∀ (b1 : A1) (b2 : A2) (b3 : A3) (b4 : A4) (b5 : A5) (b6 : A6) (b7 : A7), I b1 b2 b3 b4 b5 b6 b7 → μ b1 b2 b3 b4 b5 b6 b7 < μ a1 a2 a3 a4 a5 a6 a7 → W n b1 b2 b3 b4 b5 b6 b7) → W (n + 1) a1 a2 a3 a4 a5 a6 a7) (a1 : A1) (a2 : A2) (a3 : A3) (a4 : A4) (a5 : A5) (a6 : A6) (a7 : A7) (h : I a1 a2 a3 a4 a5 a6 a7) : ∃ n, W n a1 a2 a3 a4 a5 a6 a7 :=
  loop_m (σ := A1 × A2 × A3 × A4 × A5 × A6 × A7) (fun n s => W n s.1 s.2.1 s.2.2.1 s.2.2.2.1 s.2.2.2.2.1 s.2.2.2.2.2.1 s.2.2.2.2.2.2) (fun s => I s.1 s.2.1 s.2.2.1 s.2.2.2.1 s.2.2.2.2.1 s.2.2.2.2.2.1 s.2.2.2.2.2.2) (fun s => μ s.1 s.2.1 s.2.2.1 s.2.2.2.1 s.2.2.2.2.1 s.2.2.2.2.2.1 s.2.2.2.2.2.2) (fun n s hI hk => hs n s.1 s.2.1 s.2.2.1 s.2.2.2.1 s.2.2.2.2.1 s.2.2.2.2.2.1 s.2.2.2.2.2.2 hI (fun b1 b2 b3 b4 b5 b6 b7 h9 hm => hk (b1, b2, b3, b4, b5, b6, b7) h9 hm)) (a1, a2, a3, a4, a5, a6, a7) h
theorem lp8 {A1 A2 A3 A4 A5 A6 A7 A8 : Type} (W : Nat → A1 → A2 → A3 → A4 → A5 → A6 → A7 → A8 → Prop) (I : A1 → A2 → A3 → A4 → A5 → A6 → A7 → A8 → Prop) (μ : A1 → A2 → A3 → A4 → A5 → A6 → A7 → A8 → Nat) (hs : ∀ (n : Nat) (a1 : A1) (a2 : A2) (a3 : A3) (a4 : A4) (a5 : A5) (a6 : A6) (a7 : A7) (a8 : A8), I a1 a2 a3 a4 a5 a6 a7 a8 → (∀ (b1 : A1) (b2 : A2) (b3 : A3) (b4 : A4) (b5 : A5) (b6 : A6) (b7 : A7) (b8 : A8), I b1 b2 b3 b4 b5 b6 b7 b8 → μ b1 b2 b3 b4 b5 b6 b7 b8 < μ a1 a2 a3 a4 a5 a6 a7 a8 → W n b1 b2 b3 b4 b5 b6 b7 b8) → W (n + 1) a1 a2 a3 a4 a5 a6 a7 a8) (a1 : A1) (a2 : A2) (a3 : A3) (a4 : A4) (a5 : A5) (a6 : A6) (a7 : A7) (a8 : A8) (h : I a1 a2 a3 a4 a5 a6 a7 a8) : ∃ n, W n a1 a2 a3 a4 a5 a6 a7 a8 :=
  loop_m (σ := A1 × A2 × A3 × A4 × A5 × A6 × A7 × A8) (fun n s => W n s.1 s.2.1 s.2.2.1 s.2.2.2.1 s.2.2.2.2.1 s.2.2.2.2.2.1 s.2.2.2.2.2.2.1 s.2.2.2.2.2.2.2) (fun s => I s.1 s.2.1 s.2.2.1 s.2.2.2.1 s.2.2.2.2.1 s.2.2.2.2.2.1 s.2.2.2.2.2.2.1 s.2.2.2.2.2.2.2) (fun s => μ s.1 s.2.1 s.2.2.1 s.2.2.2.1 s.2.2.2.2.1 s.2.2.2.2.2.1 s.2.2.2.2.2.2.1 s.2.2.2.2.2.2.2) (fun n s hI hk => hs n s.1 s.2.1 s.2.2.1 s.2.2.2.1 s.2.2.2.2.1 s.2.2.2.2.2.1 s.2.2.2.2.2.2.1 s.2.2.2.2.2.2.2 hI (fun b1 b2 b3 b4 b5 b6 b7 b8 h9 hm => hk (b1, b2, b3, b4, b5, b6, b7, b8) h9 hm)) (a1, a2, a3, a4, a5, a6, a7, a8) h
theorem lp9 {A1 A2 A3 A4 A5 A6 A7 A8 A9 : Type} (W : Nat → A1 → A2 → A3 → A4 → A5 → A6 → A7 → A8 → A9 → Prop) (I : A1 → A2 → A3 → A4 → A5 → A6 → A7 → A8 → A9 → Prop) (μ : A1 → A2 → A3 → A4 → A5 → A6 → A7 → A8 → A9 → Nat) (hs : ∀ (n : Nat) (a1 : A1) (a2 : A2) (a3 : A3) (a4 : A4) (a5 : A5) (a6 : A6) (a7 : A7) (a8 : A8) (a9 : A9), I a1 a2 a3 a4 a5 a6 a7 a8 a9 → (∀ (b1 : A1) (b2 : A2) (b3 : A3) (b4 : A4) (b5 : A5) (b6 : A6) (b7 : A7) (b8 : A8) (b9 : A9), I b1 b2 b3 b4 b5 b6 b7 b8 b9 → μ b1 b2 b3 b4 b5 b6 b7 b8 b9 < μ a1 a2 a3 a4 a5 a6 a7 a8 a9 → W n b1 b2 b3 b4 b5 b6 b7 b8 b9) → W (n + 1) a1 a2 a3 a4 a5 a6 a7 a8 a9) (a1 : A1) (a2 : A2) (a3 : A3) (a4 : A4) (a5 : A5) (a6 : A6) (a7 : A7) (a8 : A8) (a9 : A9) (h : I a1 a2 a3 a4 a5 a6 a7 a8 a9) : ∃ n, W n a1 a2 a3 a4 a5 a6 a7 a8 a9 :=
  loop_m (σ := A1 × A2 × A3 × A4 × A5 × A6 × A7 × A8 × A9) (fun n s => W n s.1 s.2.1 s.2.2.1 s.2.2.2.1 s.2.2.2.2.1 s.2.2.2.2.2.1 s.2.2.2.2.2.2.1 s.2.2.2.2.2.2.2.1 s.2.2.2.2.2.2.2.2) (fun s => I s.1 s.2.1 s.2.2.1 s.2.2.2.1 s.2.2.2.2.1 s.2.2.2.2.2.1 s.2.2.2.2.2.2.1 s.2.2.2.2.2.2.2.1 s.2.2.2.2.2.2.2.2) (fun s => μ s.1 s.2.1 s.2.2.1 s.2.2.2.1 s.2.2.2.2.1 s.2.2.2.2.2.1 s.2.2.2.2.2.2.1 s.2.2.2.2.2.2.2.1 s.2.2.2.2.2.2.2.2) (fun n s hI hk => hs n s.1 s.2.1 s.2.2.1 s.2.2.2.1 s.2.2.2.2.1 s.2.2.2.2.2.1 s.2.2.2.2.2.2.1 s.2.2.2.2.2.2.2.1 s.2.2.2.2.2.2.2.2 hI (fun b1 b2 b3 b4 b5 b6 b7 b8 b9 h9 hm => hk (b1, b2, b3, b4, b5, b6, b7, b8, b9) h9 hm)) (a1, a2, a3, a4, a5, a6, a7, a8, a9) h
theorem lp10 {A1 A2 A3 A4 A5 A6 A7 A8 A9 A10 : Type} (W : Nat → A1 → A2 → A3 → A4 → A5 → A6 → A7 → A8 → A9 → A10 → Prop) (I : A1 → A2 → A3 → A4 → A5 → A6 → A7 → A8 → A9 → A10 → Prop) (μ : A1 → A2 → A3 → A4 → A5 → A6 → A7 → A8 → A9 → A10 → Nat) (hs : ∀ (n : Nat) (a1 : A1) (a2 : A2) (a3 : A3) (a4 : A4) (a5 : A5) (a6 : A6) (a7 : A7) (a8 : A8) (a9 : A9) (a10 : A10), I a1 a2 a3 a4 a5 a6 a7 a8 a9 a10 → (∀ (b1 : A1) (b2 : A2) (b3 : A3) (b4 : A4) (b5 : A5) (b6 : A6) (b7 : A7) (b8 : A8) (b9 : A9) (b10 : A10), I b1 b2 b3 b4 b5 b6 b7 b8 b9 b10 → μ b1 b2 b3 b4 b5 b6 b7 b8 b9 b10 < μ a1 a2 a3 a4 a5 a6 a7 a8 a9 a10 → W n b1 b2 b3 b4 b5 b6 b7 b8 b9 b10) → W (n + 1) a1 a2 a3 a4 a5 a6 a7 a8 a9 a10) (a1 : A1) (a2 : A2) (a3 : A3) (a4 : A4) (a5 : A5) (a6 : A6) (a7 : A7) (a8 : A8) (a9 : A9) (a10 : A10) (h : I a1 a2 a3 a4 a5 a6 a7 a8 a9 a10) : ∃ n, W n a1 a2 a3 a4 a5 a6 a7 a8 a9 a10 :=
  loop_m (σ := A1 × A2 × A3 × A4 × A5 × A6 × A7 × A8 × A9 × A10) (fun n s => W n s.1 s.2.1 s.2.2.1 s.2.2.2.1 s.2.2.2.2.1 s.2.2.2.2.2.1 s.2.2.2.2.2.2.1 s.2.2.2.2.2.2.2.1 s.2.2.2.2.2.2.2.2.1 s.2.2.2.2.2.2.2.2.2) (fun s => I s.1 s.2.1 s.2.2.1 s.2.2.2.1 s.2.2.2.2.1 s.2.2.2.2.2.1 s.2.2.2.2.2.2.1 s.2.2.2.2.2.2.2.1 s.2.2.2.2.2.2.2.2.1 s.2.2.2.2.2.2.2.2.2) (fun s => μ s.1 s.2.1 s.2.2.1 s.2.2.2.1 s.2.2.2.2.1 s.2.2.2.2.2.1 s.2.2.2.2.2.2.1 s.2.2.2.2.2.2.2.1 s.2.2.2.2.2.2.2.2.1 s.2.2.2.2.2.2.2.2.2) (fun n s hI hk => hs n s.1 s.2.1 s.2.2.1 s.2.2.2.1 s.2.2.2.2.1 s.2.2.2.2.2.1 s.2.2.2.2.2.2.1 s.2.2.2.2.2.2.2.1 s.2.2.2.2.2.2.2.2.1 s.2.2.2.2.2.2.2.2.2 hI (fun b1 b2 b3 b4 b5 b6 b7 b8 b9 b10 h9 hm => hk (b1, b2, b3, b4, b5, b6, b7, b8, b9, b10) h9 hm)) (a1, a2, a3, a4, a5, a6, a7, a8, a9, a10) h
theorem lp11 {A1 A2 A3 A4 A5 A6 A7 A8 A9 A10 A11 : Type} (W : Nat → A1 → A2 → A3 → A4 → A5 → A6 → A7 → A8 → A9 → A10 → A11 → Prop) (I : A1 → A2 → A3 → A4 → A5 → A6 → A7 → A8 → A9 → A10 → A11 → Prop) (μ : A1 → A2 → A3 → A4 → A5 → A6 → A7 → A8 → A9 → A10 → A11 → Nat) (hs : ∀ (n : Nat) (a1 : A1) (a2 : A2) (a3 : A3) (a4 : A4) (a5 : A5) (a6 : A6) (a7 : A7) (a8 : A8) (a9 : A9) (a10 : A10) (a11 : A11), I a1 a2 a3 a4 a5 a6 a7 a8 a9 a10 a11 → (∀ (b1 : A1) (b2 : A2) (b3 : A3) (b4 : A4) (b5 : A5) (b6 : A6) (b7 : A7) (b8 : A8) (b9 : A9) (b10 : A10) (b11 : A11), I b1 b2 b3 b4 b5 b6 b7 b8 b9 b10 b11 → μ b1 b2 b3 b4 b5 b6 b7 b8 b9 b10 b11 < μ a1 a2 a3 a4 a5 a6 a7 a8 a9 a10 a11 → W n b1 b2 b3 b4 b5 b6 b7 b8 b9 b10 b11) → W (n + 1) a1 a2 a3 a4 a5 a6 a7 a8 a9 a10 a11) (a1 : A1) (a2 : A2) (a3 : A3) (a4 : A4) (a5 : A5) (a6 : A6) (a7 : A7) (a8 : A8) (a9 : A9) (a10 : A10) (a11 : A11) (h : I a1 a2 a3 a4 a5 a6 a7 a8 a9 a10 a11) : ∃ n, W n a1 a2 a3 a4 a5 a6 a7 a8 a9 a10 a11 :=
  loop_m (σ := A1 × A2 × A3 × A4 × A5 × A6 × A7 × A8 × A9 × A10 × A11) (fun n s => W n s.1 s.2.1 s.2.2.1 s.2.2.2.1 s.2.2.2.2.1 s.2.2.2.2.2.1 s.2.2.2.2.2.2.1 s.2.2.2.2.2.2.2.1 s.2.2.2.2.2.2.2.2.1 s.2.2.2.2.2.2.2.2.2.1 s.2.2.2.2.2.2.2.2.2.2) (fun s => I s.1 s.2.1 s.2.2.1 s.2.2.2.1 s.2.2.2.2.1 s.2.2.2.2.2.1 s.2.2.2.2.2.2.1 s.2.2.2.2.2.2.2.1 s.2.2.2.2.2.2.2.2.1 s.2.2.2.2.2.2.2.2.2.1 s.2.2.2.2.2.2.2.2.2.2) (fun s => μ s.1 s.2.1 s.2.2.1 s.2.2.2.1 s.2.2.2.2.1 s.2.2.2.2.2.1 s.2.2.2.2.2.2.1 s.2.2.2.2.2.2.2.1 s.2.2.2.2.2.2.2.2.1 s.2.2.2.2.2.2.2.2.2.1 s.2.2.2.2.2.2.2.2.2.2) (fun n s hI hk => hs n s.1 s.2.1 s.2.2.1 s.2.2.2.1 s.2.2.2.2.1 s.2.2.2.2.2.1 s.2.2.2.2.2.2.1 s.2.2.2.2.2.2.2.1 s.2.2.2.2.2.2.2.2.1 s.2.2.2.2.2.2.2.2.2.1 s.2.2.2.2.2.2.2.2.2.2 hI (fun b1 b2 b3 b4 b5 b6 b7 b8 b9 b10 b11 h9 hm => hk (b1, b2, b3, b4, b5, b6, b7, b8, b9, b10, b11) h9 hm)) (a1, a2, a3, a4, a5, a6, a7, a8, a9, a10, a11) h
theorem lp12 {A1 A2 A3 A4 A5 A6 A7 A8 A9 A10 A11 A12 : Type} (W : Nat → A1 → A2 → A3 → A4 → A5 → A6 → A7 → A8 → A9 → A10 → A11 → A12 → Prop) (I : A1 → A2 → A3 → A4 → A5 → A6 → A7 → A8 → A9 → A10 → A11 → A12 → Prop) (μ : A1 → A2 → A3 → A4 → A5 → A6 → A7 → A8 → A9 → A10 → A11 → A12 → Nat) (hs : ∀ (n : Nat) (a1 : A1) (a2 : A2) (a3 : A3) (a4 : A4) (a5 : A5) (a6 : A6) (a7 : A7) (a8 : A8) (a9 : A9) (a10 : A10) (a11 : A11) (a12 : A12), I a1 a2 a3 a4 a5 a6 a7 a8 a9 a10 a11 a12 → (∀ (b1 : A1) (b2 : A2) (b3 : A3) (b4 : A4) (b5 : A5) (b6 : A6) (b7 : A7) (b8 : A8) (b9 : A9) (b10 : A10) (b11 : A11) (b12 : A12), I b1 b2 b3 b4 b5 b6 b7 b8 b9 b10 b11 b12 → μ b1 b2 b3 b4 b5 b6 b7 b8 b9 b10 b11 b12 < μ a1 a2 a3 a4 a5 a6 a7 a8 a9 a10 a11 a12 → W n b1 b2 b3 b4 b5 b6 b7 b8 b9 b10 b11 b12) → W (n + 1) a1 a2 a3 a4 a5 a6 a7 a8 a9 a10 a11 a12) (a1 : A1) (a2 : A2) (a3 : A3) (a4 : A4) (a5 : A5) (a6 : A6) (a7 : A7) (a8 : A8) (a9 : A9) (a10 : A10) (a11 : A11) (a12 : A12) (h : I a1 a2 a3 a4 a5 a6 a7 a8 a9 a10 a11 a12) : ∃ n, W n a1 a2 a3 a4 a5 a6 a7 a8 a9 a10 a11 a12 :=
  loop_m (σ := A1 × A2 × A3 × A4 × A5 × A6 × A7 × A8 × A9 × A10 × A11 × A12) (fun n s => W n s.1 s.2.1 s.2.2.1 s.2.2.2.1 s.2.2.2.2.1 s.2.2.2.2.2.1 s.2.2.2.2.2.2.1 s.2.2.2.2.2.2.2.1 s.2.2.2.2.2.2.2.2.1 s.2.2.2.2.2.2.2.2.2.1 s.2.2.2.2.2.2.2.2.2.2.1 s.2.2.2.2.2.2.2.2.2.2.2) (fun s => I s.1 s.2.1 s.2.2.1 s.2.2.2.1 s.2.2.2.2.1 s.2.2.2.2.2.1 s.2.2.2.2.2.2.1 s.2.2.2.2.2.2.2.1 s.2.2.2.2.2.2.2.2.1 s.2.2.2.2.2.2.2.2.2.1 s.2.2.2.2.2.2.2.2.2.2.1 s.2.2.2.2.2.2.2.2.2.2.2) (fun s => μ s.1 s.2.1 s.2.2.1 s.2.2.2.1 s.2.2.2.2.1 s.2.2.2.2.2.1 s.2.2.2.2.2.2.1 s.2.2.2.2.2.2.2.1 s.2.2.2.2.2.2.2.2.1 s.2.2.2.2.2.2.2.2.2.1 s.2.2.2.2.2.2.2.2.2.2.1 s.2.2.2.2.2.2.2.2.2.2.2) (fun n s hI hk => hs n s.1 s.2.1 s.2.2.1 s.2.2.2.1 s.2.2.2.2.1 s.2.2.2.2.2.1 s.2.2.2.2.2.2.1 s.2.2.2.2.2.2.2.1 s.2.2.2.2.2.2.2.2.1 s.2.2.2.2.2.2.2.2.2.1 s.2.2.2.2.2.2.2.2.2.2.1 s.2.2.2.2.2.2.2.2.2.2.2 hI (fun b1 b2 b3 b4 b5 b6 b7 b8 b9 b10 b11 b12 h9 hm => hk (b1, b2, b3, b4, b5, b6, b7, b8, b9, b10, b11, b12) h9 hm)) (a1, a2, a3, a4, a5, a6, a7, a8, a9, a10, a11, a12) h
theorem lp13 {A1 A2 A3 A4 A5 A6 A7 A8 A9 A10 A11 A12 A13 : Type} (W : Nat → A1 → A2 → A3 → A4 → A5 → A6 → A7 → A8 → A9 → A10 → A11 → A12 → A13 → Prop) (I : A1 → A2 → A3 → A4 → A5 → A6 → A7 → A8 → A9 → A10 → A11 → A12 → A13 → Prop) (μ : A1 → A2 → A3 → A4 → A5 → A6 → A7 → A8 → A9 → A10 → A11 → A12 → A13 → Nat) (hs : ∀ (n : Nat) (a1 : A1) (a2 : A2) (a3 : A3) (a4 : A4) (a5 : A5) (a6 : A6) (a7 : A7) (a8 : A8) (a9 : A9) (a10 : A10) (a11 : A11) (a12 : A12) (a13 : A13), I a1 a2 a3 a4 a5 a6 a7 a8 a9 a10 a11 a12 a13 → (∀ (b1 : A1) (b2 : A2) (b3 : A3) (b4 : A4) (b5 : A5) (b6 : A6) (b7 : A7) (b8 : A8) (b9 : A9) (b10 : A10) (b11 : A11) (b12 : A12) (b13 : A13), I b1 b2 b3 b4 b5 b6 b7 b8 b9 b10 b11 b12 b13 → μ b1 b2 b3 b4 b5 b6 b7 b8 b9 b10 b11 b12 b13 < μ a1 a2 a3 a4 a5 a6 a7 a8 a9 a10 a11 a12 a13 → W n b1 b2 b3 b4 b5 b6 b7 b8 b9 b10 b11 b12 b13) → W (n + 1) a1 a2 a3 a4 a5 a6 a7 a8 a9 a10 a11 a12 a13) (a1 : A1) (a2 : A2) (a3 : A3) (a4 : A4) (a5 : A5) (a6 : A6) (a7 : A7) (a8 : A8) (a9 : A9) (a10 : A10) (a11 : A11) (a12 : A12) (a13 : A13) (h : I a1 a2 a3 a4 a5 a6 a7 a8 a9 a10 a11 a12 a13) : ∃ n, W n a1 a2 a3 a4 a5 a6 a7 a8 a9 a10 a11 a12 a13 :=
  loop_m (σ := A1 × A2 × A3 × A4 × A5 × A6 × A7 × A8 × A9 × A10 × A11 × A12 × A13) (fun n s => W n s.1 s.2.1 s.2.2.1 s.2.2.2.1 s.2.2.2.2.1 s.2.2.2.2.2.1 s.2.2.2.2.2.2.1 s.2.2.2.2.2.2.2.1 s.2.2.2.2.2.2.2.2.1 s.2.2.2.2.2.2.2.2.2.1 s.2.2.2.2.2.2.2.2.2.2.1 s.2.2.2.2.2.2.2.2.2.2.2.1 s.2.2.2.2.2.2.2.2.2.2.2.2) (fun s => I s.1 s.2.1 s.2.2.1 s.2.2.2.1 s.2.2.2.2.1 s.2.2.2.2.2.1 s.2.2.2.2.2.2.1 s.2.2.2.2.2.2.2.1 s.2.2.2.2.2.2.2.2.1 s.2.2.2.2.2.2.2.2.2.1 s.2.2.2.2.2.2.2.2.2.2.1 s.2.2.2.2.2.2.2.2.2.2.2.1 s.2.2.2.2.2.2.2.2.2.2.2.2) (fun s => μ s.1 s.2.1 s.2.2.1 s.2.2.2.1 s.2.2.2.2.1 s.2.2.2.2.2.1 s.2.2.2.2.2.2.1 s.2.2.2.2.2.2.2.1 s.2.2.2.2.2.2.2.2.1 s.2.2.2.2.2.2.2.2.2.1 s.2.2.2.2.2.2.2.2.2.2.1 s.2.2.2.2.2.2.2.2.2.2.2.1 s.2.2.2.2.2.2.2.2.2.2.2.2) (fun n s hI hk => hs n s.1 s.2.1 s.2.2.1 s.2.2.2.1 s.2.2.2.2.1 s.2.2.2.2.2.1 s.2.2.2.2.2.2.1 s.2.2.2.2.2.2.2.1 s.2.2.2.2.2.2.2.2.1 s.2.2.2.2.2.2.2.2.2.1 s.2.2.2.2.2.2.2.2.2.2.1 s.2.2.2.2.2.2.2.2.2.2.2.1 s.2.2.2.2.2.2.2.2.2.2.2.2 hI (fun b1 b2 b3 b4 b5 b6 b7 b8 b9 b10 b11 b12 b13 h9 hm => hk (b1, b2, b3, b4, b5, b6, b7, b8, b9, b10, b11, b12, b13) h9 hm)) (a1, a2, a3, a4, a5, a6, a7, a8, a9, a10, a11, a12, a13) h
theorem lp14 {A1 A2 A3 A4 A5 A6 A7 A8 A9 A10 A11 A12 A13 A14 : Type} (W : Nat → A1 → A2 → A3 → A4 → A5 → A6 → A7 → A8 → A9 → A10 → A11 → A12 → A13 → A14 → Prop) (I : A1 → A2 → A3 → A4 → A5 → A6 → A7 → A8 → A9 → A10 → A11 → A12 → A13 → A14 → Prop) (μ : A1 → A2 → A3 → A4 → A5 → A6 → A7 → A8 → A9 → A10 → A11 → A12 → A13 → A14 → Nat) (hs : ∀ (n : Nat) (a1 : A1) (a2 : A2) (a3 : A3) (a4 : A4) (a5 : A5) (a6 : A6) (a7 : A7) (a8 : A8) (a9 : A9) (a10 : A10) (a11 : A11) (a12 : A12) (a13 : A13) (a14 : A14), I a1 a2 a3 a4 a5 a6 a7 a8 a9 a10 a11 a12 a13 a14 → (∀ (b1 : A1) (b2 : A2) (b3 : A3) (b4 : A4) (b5 : A5) (b6 : A6) (b7 : A7) (b8 : A8) (b9 : A9) (b10 : A10) (b11 : A11) (b12 : A12) (b13 : A13) (b14 : A14), I b1 b2 b3 b4 b5 b6 b7 b8 b9 b10 b11 b12 b13 b14 → μ b1 b2 b3 b4 b5 b6 b7 b8 b9 b10 b11 b12 b13 b14 < μ a1 a2 a3 a4 a5 a6 a7 a8 a9 a10 a11 a12 a13 a14 → W n b1 b2 b3 b4 b5 b6 b7 b8 b9 b10 b11 b12 b13 b14) → W (n + 1) a1 a2 a3 a4 a5 a6 a7 a8 a9 a10 a11 a12 a13 a14) (a1 : A1) (a2 : A2) (a3 : A3) (a4 : A4) (a5 : A5) (a6 : A6) (a7 : A7) (a8 : A8) (a9 : A9) (a10 : A10) (a11 : A11) (a12 : A12) (a13 : A13) (a14 : A14) (h : I a1 a2 a3 a4 a5 a6 a7 a8 a9 a10 a11 a12 a13 a14) : ∃ n, W n a1 a2 a3 a4 a5 a6 a7 a8 a9 a10 a11 a12 a13 a14 :=
  loop_m (σ := A1 × A2 × A3 × A4 × A5 × A6 × A7 × A8 × A9 × A10 × A11 × A12 × A13 × A14) (fun n s => W n s.1 s.2.1 s.2.2.1 s.2.2.2.1 s.2.2.2.2.1 s.2.2.2.2.2.1 s.2.2.2.2.2.2.1 s.2.2.2.2.2.2.2.1 s.2.2.2.2.2.2.2.2.1 s.2.2.2.2.2.2.2.2.2.1 s.2.2.2.2.2.2.2.2.2.2.1 s.2.2.2.2.2.2.2.2.2.2.2.1 s.2.2.2.2.2.2.2.2.2.2.2.2.1 s.2.2.2.2.2.2.2.2.2.2.2.2.2) (fun s => I s.1 s.2.1 s.2.2.1 s.2.2.2.1 s.2.2.2.2.1 s.2.2.2.2.2.1 s.2.2.2.2.2.2.1 s.2.2.2.2.2.2.2.1 s.2.2.2.2.2.2.2.2.1 s.2.2.2.2.2.2.2.2.2.1 s.2.2.2.2.2.2.2.2.2.2.1 s.2.2.2.2.2.2.2.2.2.2.2.1 s.2.2.2.2.2.2.2.2.2.2.2.2.1 s.2.2.2.2.2.2.2.2.2.2.2.2.2) (fun s => μ s.1 s.2.1 s.2.2.1 s.2.2.2.1 s.2.2.2.2.1 s.2.2.2.2.2.1 s.2.2.2.2.2.2.1 s.2.2.2.2.2.2.2.1 s.2.2.2.2.2.2.2.2.1 s.2.2.2.2.2.2.2.2.2.1 s.2.2.2.2.2.2.2.2.2.2.1 s.2.2.2.2.2.2.2.2.2.2.2.1 s.2.2.2.2.2.2.2.2.2.2.2.2.1 s.2.2.2.2.2.2.2.2.2.2.2.2.2) (fun n s hI hk => hs n s.1 s.2.1 s.2.2.1 s.2.2.2.1 s.2.2.2.2.1 s.2.2.2.2.2.1 s.2.2.2.2.2.2.1 s.2.2.2.2.2.2.2.1 s.2.2.2.2.2.2.2.2.1 s.2.2.2.2.2.2.2.2.2.1 s.2.2.2.2.2.2.2.2.2.2.1 s.2.2.2.2.2.2.2.2.2.2.2.1 s.2.2.2.2.2.2.2.2.2.2.2.2.1 s.2.2.2.2.2.2.2.2.2.2.2.2.2 hI (fun b1 b2 b3 b4 b5 b6 b7 b8 b9 b10 b11 b12 b13 b14 h9 hm => hk (b1, b2, b3, b4, b5, b6, b7, b8, b9, b10, b11, b12, b13, b14) h9 hm)) (a1, a2, a3, a4, a5, a6, a7, a8, a9, a10, a11, a12, a13, a14) h
theorem lp15 {A1 A2 A3 A4 A5 A6 A7 A8 A9 A10 A11 A12 A13 A14 A15 : Type} (W : Nat → A1 → A2 → A3 → A4 → A5 → A6 → A7 → A8 → A9 → A10 → A11 → A12 → A13 → A14 → A15 → Prop) (I : A1 → A2 → A3 → A4 → A5 → A6 → A7 → A8 → A9 → A10 → A11 → A12 → A13 → A14 → A15 → Prop) (μ : A1 → A2 → A3 → A4 → A5 → A6 → A7 → A8 → A9 → A10 → A11 → A12 → A13 → A14 → A15 → Nat) (hs : ∀ (n : Nat) (a1 : A1) (a2 : A2) (a3 : A3) (a4 : A4) (a5 : A5) (a6 : A6) (a7 : A7) (a8 : A8) (a9 : A9) (a10 : A10) (a11 : A11) (a12 : A12) (a13 : A13) (a14 : A14) (a15 : A15), I a1 a2 a3 a4 a5 a6 a7 a8 a9 a10 a11 a12 a13 a14 a15 → (∀ (b1 : A1) (b2 : A2) (b3 : A3) (b4 : A4) (b5 : A5) (b6 : A6) (b7 : A7) (b8 : A8) (b9 : A9) (b10 : A10) (b11 : A11) (b12 : A12) (b13 : A13) (b14 : A14) (b15 : A15), I b1 b2 b3 b4 b5 b6 b7 b8 b9 b10 b11 b12 b13 b14 b15 → μ b1 b2 b3 b4 b5 b6 b7 b8 b9 b10 b11 b12 b13 b14 b15 < μ a1 a2 a3 a4 a5 a6 a7 a8 a9 a10 a11 a12 a13 a14 a15 → W n b1 b2 b3 b4 b5 b6 b7 b8 b9 b10 b11 b12 b13 b14 b15) → W (n + 1) a1 a2 a3 a4 a5 a6 a7 a8 a9 a10 a11 a12 a13 a14 a15) (a1 : A1) (a2 : A2) (a3 : A3) (a4 : A4) (a5 : A5) (a6 : A6) (a7 : A7) (a8 : A8) (a9 : A9) (a10 : A10) (a11 : A11) (a12 : A12) (a13 : A13) (a14 : A14) (a15 : A15) (h : I a1 a2 a3 a4 a5 a6 a7 a8 a9 a10 a11 a12 a13 a14 a15) : ∃ n, W n a1 a2 a3 a4 a5 a6 a7 a8 a9 a10 a11 a12 a13 a14 a15 :=
  loop_m (σ := A1 × A2 × A3 × A4 × A5 × A6 × A7 × A8 × A9 × A10 × A11 × A12 × A13 × A14 × A15) (fun n s => W n s.1 s.2.1 s.2.2.1 s.2.2.2.1 s.2.2.2.2.1 s.2.2.2.2.2.1 s.2.2.2.2.2.2.1 s.2.2.2.2.2.2.2.1 s.2.2.2.2.2.2.2.2.1 s.2.2.2.2.2.2.2.2.2.1 s.2.2.2.2.2.2.2.2.2.2.1 s.2.2.2.2.2.2.2.2.2.2.2.1 s.2.2.2.2.2.2.2.2.2.2.2.2.1 s.2.2.2.2.2.2.2.2.2.2.2.2.2.1 s.2.2.2.2.2.2.2.2.2.2.2.2.2.2) (fun s => I s.1 s.2.1 s.2.2.1 s.2.2.2.1 s.2.2.2.2.1 s.2.2.2.2.2.1 s.2.2.2.2.2.2.1 s.2.2.2.2.2.2.2.1 s.2.2.2.2.2.2.2.2.1 s.2.2.2.2.2.2.2.2.2.1 s.2.2.2.2.2.2.2.2.2.2.1 s.2.2.2.2.2.2.2.2.2.2.2.1 s.2.2.2.2.2.2.2.2.2.2.2.2.1 s.2.2.2.2.2.2.2.2.2.2.2.2.2.1 s.2.2.2.2.2.2.2.2.2.2.2.2.2.2) (fun s => μ s.1 s.2.1 s.2.2.1 s.2.2.2.1 s.2.2.2.2.1 s.2.2.2.2.2.1 s.2.2.2.2.2.2.1 s.2.2.2.2.2.2.2.1 s.2.2.2.2.2.2.2.2.1 s.2.2.2.2.2.2.2.2.2.1 s.2.2.2.2.2.2.2.2.2.2.1 s.2.2.2.2.2.2.2.2.2.2.2.1 s.2.2.2.2.2.2.2.2.2.2.2.2.1 s.2.2.2.2.2.2.2.2.2.2.2.2.2.1 s.2.2.2.2.2.2.2.2.2.2.2.2.2.2) (fun n s hI hk => hs n s.1 s.2.1 s.2.2.1 s.2.2.2.1 s.2.2.2.2.1 s.2.2.2.2.2.1 s.2.2.2.2.2.2.1 s.2.2.2.2.2.2.2.1 s.2.2.2.2.2.2.2.2.1 s.2.2.2.2.2.2.2.2.2.1 s.2.2.2.2.2.2.2.2.2.2.1 s.2.2.2.2.2.2.2.2.2.2.2.1 s.2.2.2.2.2.2.2.2.2.2.2.2.1 s.2.2.2.2.2.2.2.2.2.2.2.2.2.1 s.2.2.2.2.2.2.2.2.2.2.2.2.2.2 hI (fun b1 b2 b3 b4 b5 b6 b7 b8 b9 b10 b11 b12 b13 b14 b15 h9 hm => hk (b1, b2, b3, b4, b5, b6, b7, b8, b9, b10, b11, b12, b13, b14, b15) h9 hm)) (a1, a2, a3, a4, a5, a6, a7, a8, a9, a10, a11, a12, a13, a14, a15) h
theorem lp16 {A1 A2 A3 A4 A5 A6 A7 A8 A9 A10 A11 A12 A13 A14 A15 A16 : Type} (W : Nat → A1 → A2 → A3 → A4 → A5 → A6 → A7 → A8 → A9 → A10 → A11 → A12 → A13 → A14 → A15 → A16 → Prop) (I : A1 → A2 → A3 → A4 → A5 → A6 → A7 → A8 → A9 → A10 → A11 → A12 → A13 → A14 → A15 → A16 → Prop) (μ : A1 → A2 → A3 → A4 → A5 → A6 → A7 → A8 → A9 → A10 → A11 → A12 → A13 → A14 → A15 → A16 → Nat) (hs : ∀ (n : Nat) (a1 : A1) (a2 : A2) (a3 : A3) (a4 : A4) (a5 : A5) (a6 : A6) (a7 : A7) (a8 : A8) (a9 : A9) (a10 : A10) (a11 : A11) (a12 : A12) (a13 : A13) (a14 : A14) (a15 : A15) (a16 : A16), I a1 a2 a3 a4 a5 a6 a7 a8 a9 a10 a11 a12 a13 a14 a15 a16 → (∀ (b1 : A1) (b2 : A2) (b3 : A3) (b4 : A4) (b5 : A5) (b6 : A6) (b7 : A7) (b8 : A8) (b9 : A9) (b10 : A10) (b11 : A11) (b12 : A12) (b13 : A13) (b14 : A14) (b15 : A15) (b16 : A16), I b1 b2 b3 b4 b5 b6 b7 b8 b9 b10 b11 b12 b13 b14 b15 b16 → μ b1 b2 b3 b4 b5 b6 b7 b8 b9 b10 b11 b12 b13 b14 b15 b16 < μ a1 a2 a3 a4 a5 a6 a7 a8 a9 a10 a11 a12 a13 a14 a15 a16 → W n b1 b2 b3 b4 b5 b6 b7 b8 b9 b10 b11 b12 b13 b14 b15 b16) → W (n + 1) a1 a2 a3 a4 a5 a6 a7 a8 a9 a10 a11 a12 a13 a14 a15 a16) (a1 : A1) (a2 : A2) (a3 : A3) (a4 : A4) (a5 : A5) (a6 : A6) (a7 : A7) (a8 : A8) (a9 : A9) (a10 : A10) (a11 : A11) (a12 : A12) (a13 : A13) (a14 : A14) (a15 : A15) (a16 : A16) (h : I a1 a2 a3 a4 a5 a6 a7 a8 a9 a10 a11 a12 a13 a14 a15 a16) : ∃ n, W n a1 a2 a3 a4 a5 a6 a7 a8 a9 a10 a11 a12 a13 a14 a15 a16 :=
  loop_m (σ := A1 × A2 × A3 × A4 × A5 × A6 × A7 × A8 × A9 × A10 × A11 × A12 × A13 × A14 × A15 × A16) (fun n s => W n s.1 s.2.1 s.2.2.1 s.2.2.2.1 s.2.2.2.2.1 s.2.2.2.2.2.1 s.2.2.2.2.2.2.1 s.2.2.2.2.2.2.2.1 s.2.2.2.2.2.2.2.2.1 s.2.2.2.2.2.2.2.2.2.1 s.2.2.2.2.2.2.2.2.2.2.1 s.2.2.2.2.2.2.2.2.2.2.2.1 s.2.2.2.2.2.2.2.2.2.2.2.2.1 s.2.2.2.2.2.2.2.2.2.2.2.2.2.1 s.2.2.2.2.2.2.2.2.2.2.2.2.2.2.1 s.2.2.2.2.2.2.2.2.2.2.2.2.2.2.2) (fun s => I s.1 s.2.1 s.2.2.1 s.2.2.2.1 s.2.2.2.2.1 s.2.2.2.2.2.1 s.2.2.2.2.2.2.1 s.2.2.2.2.2.2.2.1 s.2.2.2.2.2.2.2.2.1 s.2.2.2.2.2.2.2.2.2.1 s.2.2.2.2.2.2.2.2.2.2.1 s.2.2.2.2.2.2.2.2.2.2.2.1 s.2.2.2.2.2.2.2.2.2.2.2.2.1 s.2.2.2.2.2.2.2.2.2.2.2.2.2.1 s.2.2.2.2.2.2.2.2.2.2.2.2.2.2.1 s.2.2.2.2.2.2.2.2.2.2.2.2.2.2.2) (fun s => μ s.1 s.2.1 s.2.2.1 s.2.2.2.1 s.2.2.2.2.1 s.2.2.2.2.2.1 s.2.2.2.2.2.2.1 s.2.2.2.2.2.2.2.1 s.2.2.2.2.2.2.2.2.1 s.2.2.2.2.2.2.2.2.2.1 s.2.2.2.2.2.2.2.2.2.2.1 s.2.2.2.2.2.2.2.2.2.2.2.1 s.2.2.2.2.2.2.2.2.2.2.2.2.1 s.2.2.2.2.2.2.2.2.2.2.2.2.2.1 s.2.2.2.2.2.2.2.2.2.2.2.2.2.2.1 s.2.2.2.2.2.2.2.2.2.2.2.2.2.2.2) (fun n s hI hk => hs n s.1 s.2.1 s.2.2.1 s.2.2.2.1 s.2.2.2.2.1 s.2.2.2.2.2.1 s.2.2.2.2.2.2.1 s.2.2.2.2.2.2.2.1 s.2.2.2.2.2.2.2.2.1 s.2.2.2.2.2.2.2.2.2.1 s.2.2.2.2.2.2.2.2.2.2.1 s.2.2.2.2.2.2.2.2.2.2.2.1 s.2.2.2.2.2.2.2.2.2.2.2.2.1 s.2.2.2.2.2.2.2.2.2.2.2.2.2.1 s.2.2.2.2.2.2.2.2.2.2.2.2.2.2.1 s.2.2.2.2.2.2.2.2.2.2.2.2.2.2.2 hI (fun b1 b2 b3 b4 b5 b6 b7 b8 b9 b10 b11 b12 b13 b14 b15 b16 h9 hm => hk (b1, b2, b3, b4, b5, b6, b7, b8, b9, b10, b11, b12, b13, b14, b15, b16) h9 hm)) (a1, a2, a3, a4, a5, a6, a7, a8, a9, a10, a11, a12, a13, a14, a15, a16) h
theorem pk_least (P : Nat → Prop) (h : ∃ k, P k) : ∃ k, P k ∧ ∀ j, j < k → ¬ P j := by
  obtain ⟨k, hk⟩ := h
  induction k using Nat.strongRecOn with
  | ind k ih =>
    by_cases e : ∃ j, j < k ∧ P j
    · obtain ⟨j, hj, pj⟩ := e
      exact ih j hj pj
    · exact ⟨k, hk, fun j hj pj => e ⟨j, hj, pj⟩⟩
theorem rp1 {ρ A1 : Type} (W : Nat → (ρ → Prop) → A1 → Prop) (ok : A1 → Prop) (μ : A1 → Nat) (val : A1 → ρ)
    (hs : ∀ (d : Nat) (post : ρ → Prop) (a1 : A1), ok a1 → post (val a1) → (∀ (post' : ρ → Prop) (b1 : A1), ok b1 → μ b1 < μ a1 → post' (val b1) → W d post' b1) → W (d + 1) post a1) :
    ∀ (d : Nat) (post : ρ → Prop) (a1 : A1), ok a1 → μ a1 < d → post (val a1) → W d post a1 := by
  intro d
  induction d with
  | zero => intro post a1 _ h; omega
  | succ d ih =>
    intro post a1 ho hm hp
    exact hs d post a1 ho hp (fun post' b1 ho' hm' hp' => ih post' b1 ho' (by omega) hp')
theorem rp2 {ρ A1 A2 : Type} (W : Nat → (ρ → Prop) → A1 → A2 → Prop) (ok : A1 → A2 → Prop) (μ : A1 → A2 → Nat) (val : A1 → A2 → ρ)
    (hs : ∀ (d : Nat) (post : ρ → Prop) (a1 : A1) (a2 : A2), ok a1 a2 → post (val a1 a2) → (∀ (post' : ρ → Prop) (b1 : A1) (b2 : A2), ok b1 b2 → μ b1 b2 < μ a1 a2 → post' (val b1 b2) → W d post' b1 b2) → W (d + 1) post a1 a2) :
    ∀ (d : Nat) (post : ρ → Prop) (a1 : A1) (a2 : A2), ok a1 a2 → μ a1 a2 < d → post (val a1 a2) → W d post a1 a2 := by
  intro d
  induction d with
  | zero => intro post a1 a2 _ h; omega
  | succ d ih =>
    intro post a1 a2 ho hm hp
    exact hs d post a1 a2 ho hp (fun post' b1 b2 ho' hm' hp' => ih post' b1 b2 ho' (by omega) hp')
theorem rp3 {ρ A1 A2 A3 : Type} (W : Nat → (ρ → Prop) → A1 → A2 → A3 → Prop) (ok : A1 → A2 → A3 → Prop) (μ : A1 → A2 → A3 → Nat) (val : A1 → A2 → A3 → ρ)
    (hs : ∀ (d : Nat) (post : ρ → Prop) (a1 : A1) (a2 : A2) (a3 : A3), ok a1 a2 a3 → post (val a1 a2 a3) → (∀ (post' : ρ → Prop) (b1 : A1) (b2 : A2) (b3 : A3), ok b1 b2 b3 → μ b1 b2 b3 < μ a1 a2 a3 → post' (val b1 b2 b3) → W d post' b1 b2 b3) → W (d + 1) post a1 a2 a3) :
    ∀ (d : Nat) (post : ρ → Prop) (a1 : A1) (a2 : A2) (a3 : A3), ok a1 a2 a3 → μ a1 a2 a3 < d → post (val a1 a2 a3) → W d post a1 a2 a3 := by
  intro d
  induction d with
  | zero => intro post a1 a2 a3 _ h; omega
  | succ d ih =>
    intro post a1 a2 a3 ho hm hp
    exact hs d post a1 a2 a3 ho hp (fun post' b1 b2 b3 ho' hm' hp' => ih post' b1 b2 b3 ho' (by omega) hp')
theorem rp4 {ρ A1 A2 A3 A4 : Type} (W : Nat → (ρ → Prop) → A1 → A2 → A3 → A4 → Prop) (ok : A1 → A2 → A3 → A4 → Prop) (μ : A1 → A2 → A3 → A4 → Nat) (val : A1 → A2 → A3 → A4 → ρ)
    (hs : ∀ (d : Nat) (post : ρ → Prop) (a1 : A1) (a2 : A2) (a3 : A3) (a4 : A4), ok a1 a2 a3 a4 → post (val a1 a2 a3 a4) → (∀ (post' : ρ → Prop) (b1 : A1) (b2 : A2) (b3 : A3) (b4 : A4), ok b1 b2 b3 b4 → μ b1 b2 b3 b4 < μ a1 a2 a3 a4 → post' (val b1 b2 b3 b4) → W d post' b1 b2 b3 b4) → W (d + 1) post a1 a2 a3 a4) :
    ∀ (d : Nat) (post : ρ → Prop) (a1 : A1) (a2 : A2) (a3 : A3) (a4 : A4), ok a1 a2 a3 a4 → μ a1 a2 a3 a4 < d → post (val a1 a2 a3 a4) → W d post a1 a2 a3 a4 := by
  intro d
  induction d with
  | zero => intro post a1 a2 a3 a4 _ h; omega
  | succ d ih =>
    intro post a1 a2 a3 a4 ho hm hp
    exact hs d post a1 a2 a3 a4 ho hp (fun post' b1 b2 b3 b4 ho' hm' hp' => ih post' b1 b2 b3 b4 ho' (by omega) hp')
theorem rp5 {ρ A1 A2 A3 A4 A5 : Type} (W : Nat → (ρ → Prop) → A1 → A2 → A3 → A4 → A5 → Prop) (ok : A1 → A2 → A3 → A4 → A5 → Prop) (μ : A1 → A2 → A3 → A4 → A5 → Nat) (val : A1 → A2 → A3 → A4 → A5 → ρ)
    (hs : ∀ (d : Nat) (post : ρ → Prop) (a1 : A1) (a2 : A2) (a3 : A3) (a4 : A4) (a5 : A5), ok a1 a2 a3 a4 a5 → post (val a1 a2 a3 a4 a5) → (∀ (post' : ρ → Prop) (b1 : A1) (b2 : A2) (b3 : A3) (b4 : A4) (b5 : A5), ok b1 b2 b3 b4 b5 → μ b1 b2 b3 b4 b5 < μ a1 a2 a3 a4 a5 → post' (val b1 b2 b3 b4 b5) → W d post' b1 b2 b3 b4 b5) → W (d + 1) post a1 a2 a3 a4 a5) :
    ∀ (d : Nat) (post : ρ → Prop) (a1 : A1) (a2 : A2) (a3 : A3) (a4 : A4) (a5 : A5), ok a1 a2 a3 a4 a5 → μ a1 a2 a3 a4 a5 < d → post (val a1 a2 a3 a4 a5) → W d post a1 a2 a3 a4 a5 := by
  intro d
  induction d with
  | zero => intro post a1 a2 a3 a4 a5 _ h; omega
  | succ d ih =>
    intro post a1 a2 a3 a4 a5 ho hm hp
    exact hs d post a1 a2 a3 a4 a5 ho hp (fun post' b1 b2 b3 b4 b5 ho' hm' hp' => ih post' b1 b2 b3 b4 b5 ho' (by omega) hp')
theorem rp6 {ρ A1 A2 A3 A4 A5 A6 : Type} (W : Nat → (ρ → Prop) → A1 → A2 → A3 → A4 → A5 → A6 → Prop) (ok : A1 → A2 → A3 → A4 → A5 → A6 → Prop) (μ : A1 → A2 → A3 → A4 → A5 → A6 → Nat) (val : A1 → A2 → A3 → A4 → A5 → A6 → ρ)
    (hs : ∀ (d : Nat) (post : ρ → Prop) (a1 : A1) (a2 : A2) (a3 : A3) (a4 : A4) (a5 : A5) (a6 : A6), ok a1 a2 a3 a4 a5 a6 → post (val a1 a2 a3 a4 a5 a6) → (∀ (post' : ρ → Prop) (b1 : A1) (b2 : A2) (b3 : A3) (b4 : A4) (b5 : A5) (b6 : A6), ok b1 b2 b3 b4 b5 b6 → μ b1 b2 b3 b4 b5 b6 < μ a1 a2 a3 a4 a5 a6 → post' (val b1 b2 b3 b4 b5 b6) → W d post' b1 b2 b3 b4 b5 b6) → W (d + 1) post a1 a2 a3 a4 a5 a6) :
    ∀ (d : Nat) (post : ρ → Prop) (a1 : A1) (a2 : A2) (a3 : A3) (a4 : A4) (a5 : A5) (a6 : A6), ok a1 a2 a3 a4 a5 a6 → μ a1 a2 a3 a4 a5 a6 < d → post (val a1 a2 a3 a4 a5 a6) → W d post a1 a2 a3 a4 a5 a6 := by
  intro d
  induction d with
  | zero => intro post a1 a2 a3 a4 a5 a6 _ h; omega
  | succ d ih =>
    intro post a1 a2 a3 a4 a5 a6 ho hm hp
    exact hs d post a1 a2 a3 a4 a5 a6 ho hp (fun post' b1 b2 b3 b4 b5 b6 ho' hm' hp' => ih post' b1 b2 b3 b4 b5 b6 ho' (by omega) hp')
theorem rec_p {σ ρ : Type} (W : Nat → (ρ → Prop) → σ → Prop) (ok : σ → Prop) (μ : σ → Nat) (val : σ → ρ)
    (hs : ∀ d s post, ok s → post (val s) → (∀ s' post', ok s' → μ s' < μ s → post' (val s') → W d post' s') → W (d + 1) post s) :
    ∀ d s post, ok s → μ s < d → post (val s) → W d post s := by
  intro d
  induction d with
  | zero => intro s post _ h; omega
  | succ d ih =>
    intro s post ho hm hp
    exact hs d s post ho hp (fun s' post' ho' hm' hp' => ih s' post' ho' (by omega) hp')
theorem rec_q {σ ρ : Type} (W : Nat → (ρ → Prop) → σ → Prop) (ok : σ → Prop) (μ : σ → Nat) (Q : σ → ρ → Prop)
    (hs : ∀ d s post, ok s → (∀ r, Q s r → post r) → (∀ s' post', ok s' → μ s' < μ s → (∀ r, Q s' r → post' r) → W d post' s') → W (d + 1) post s) :
    ∀ d s post, ok s → μ s < d → (∀ r, Q s r → post r) → W d post s := by
  intro d
  induction d with
  | zero => intro s post _ h; omega
  | succ d ih =>
    intro s post ho hm hp
    exact hs d s post ho hp (fun s' post' ho' hm' hp' => ih s' post' ho' (by omega) hp')
def bx_sum (f : Nat → Int32) : Nat → Int32
  | 0 => 0
  | n + 1 => bx_sum f n + f n
theorem ek_u {A : Prop} {B : Nat → Prop} {k N : Nat} (hk : k < N) (h : B k) : (some k = none → A) ∧ (∀ y : Nat, some k = some y → (y < N ∧ B y)) :=
  ⟨fun z => absurd z (Option.some_ne_none k), fun _ e => (by cases e; exact ⟨hk, h⟩)⟩
theorem ek_nu {A : Prop} {B : Nat → Prop} (h : A) : ((none : Option Nat) = none → A) ∧ (∀ y : Nat, (none : Option Nat) = some y → B y) :=
  ⟨fun _ => h, fun _ e => (by cases e)⟩
theorem ek_if {c d A B : Prop} (e : c ↔ d) (f : d → A) (g : ¬ d → B) : (c → A) ∧ (¬ c → B) :=
  ⟨fun z => f (e.mp z), fun z => g (fun y => z (e.mpr y))⟩
theorem ek_v {α : Sort _} {P : α → Prop} {a b : α} (e : a = b) (h : P b) : P a := e ▸ h
theorem co_some {x : Option Nat} {A : Prop} {B : Nat → Prop} (i : Nat) (h : B i) (hx : x = some i := by rfl) : (x = none → A) ∧ (∀ y : Nat, x = some y → B y) := by
  subst hx
  exact ⟨fun e => (nomatch e), fun y e => Option.some.inj e ▸ h⟩
theorem co_none {x : Option Nat} {A : Prop} {B : Nat → Prop} (h : A) (hx : x = none := by rfl) : (x = none → A) ∧ (∀ y : Nat, x = some y → B y) := by
  subst hx
  exact ⟨fun _ => h, fun y e => (nomatch e)⟩
theorem co_any {x : Option Nat} {A : Prop} {B : Nat → Prop} (hn : x = none → A) (hs : ∀ i : Nat, x = some i → B i) : (x = none → A) ∧ (∀ y : Nat, x = some y → B y) := ⟨hn, hs⟩
theorem co_2 {P : Nat → Prop} (h0 : P 0) (h1 : P 1) {i : Nat} (hi : i < 2) : P i :=
  match i, hi with
  | 0, _ => h0
  | 1, _ => h1
theorem co_3 {P : Nat → Prop} (h0 : P 0) (h1 : P 1) (h2 : P 2) {i : Nat} (hi : i < 3) : P i :=
  match i, hi with
  | 0, _ => h0
  | 1, _ => h1
  | 2, _ => h2
theorem co_4 {P : Nat → Prop} (h0 : P 0) (h1 : P 1) (h2 : P 2) (h3 : P 3) {i : Nat} (hi : i < 4) : P i :=
  match i, hi with
  | 0, _ => h0
  | 1, _ => h1
  | 2, _ => h2
  | 3, _ => h3
theorem co_dec {N : Nat} {P : Nat → Prop} [DecidablePred P] (h : (List.range N).all (fun i => decide (P i)) = true) {i : Nat} (hi : i < N) : P i := by
  have := List.all_eq_true.mp h i (List.mem_range.mpr hi)
  exact of_decide_eq_true this
theorem co_tab {α : Type} {l : List α} {d : α} {P : α → Prop} (h : ∀ a, a ∈ l → P a) {i : Nat} (hi : i < l.length) : P (l.getD i d) := by
  rw [List.getD_eq_getElem?_getD, List.getElem?_eq_getElem hi]
  exact h _ (List.getElem_mem hi)
theorem pk_mu {x : Int32} {L : Nat} (h0 : ¬ x < 0) (h : ¬ nI L ≤ x) (hL : L < 2 ^ 31) : ∃ j : Nat, j < L ∧ x = nI j ∧ x + 1 = nI (j + 1) ∧ x.toNatClampNeg = j ∧ L - (x + 1).toNatClampNeg < L - x.toNatClampNeg := by
  obtain ⟨j, hj, rfl⟩ := nI_of h0
  have hl : j < L := Nat.not_le.mp fun q => h (nI_le q hj)
  refine ⟨j, hl, rfl, nI_1 j, nI_clamp hj, ?_⟩
  rw [nI_1, nI_clamp (by omega), nI_clamp hj]
  omega
theorem op_s {α : Type} {r : Option α} {A : Prop} {B : α → Prop} {y : α} (h : r = some y) (b : B y) : (r = none → A) ∧ ∀ z, r = some z → B z :=
  ⟨fun e => (by rw [h] at e; cases e), fun z e => (by rw [h] at e; cases e; exact b)⟩
def l_holds {α : Type} (a : Nat → Option Nat) (LP : List Nat) (p : Nat → α) (c : Nat) (b : Nat → α) : Prop :=
  ∀ j, j < c → ∃ y, a j = some y ∧ y ∈ LP ∧ p y = b j
theorem l_holds_0 {α : Type} {a : Nat → Option Nat} {LP : List Nat} {p b : Nat → α} : l_holds a LP p 0 b := fun j h => absurd h (Nat.not_lt_zero j)
theorem l_in_new (LP : List Nat) (q : Nat) : q ∈ LP ++ [q] := List.mem_append.mpr (Or.inr (List.mem_singleton.mpr rfl))
def l_sum (b : Nat → Int32) : Nat → Int32
  | 0 => 0
  | k + 1 => l_sum b k + b k
theorem sb_shr0 (x : Int32) : x >>> ((0 : Int32) &&& 31) = x := by
  rw [show ((0 : Int32) &&& 31) = 0 by decide]
  simp
theorem sb_shl0 (x : Int32) : x <<< ((0 : Int32) &&& 31) = x := by
  rw [show ((0 : Int32) &&& 31) = 0 by decide]
  simp
theorem sb_cl0 : (0 : Int32).toNatClampNeg = 0 := by decide
theorem sb_m1 {p : Nat} (h : 0 < p) : nI p + (-1) = nI (p - 1) := by
  obtain ⟨q, rfl⟩ : ∃ q, p = q + 1 := ⟨p - 1, by omega⟩
  exact pk_m1 q
def sb_b (c : Nat) : Int32 := (nI c).toInt8.toInt32
theorem sb_byte : ∀ c, c < 256 → sb_b c &&& 255 = nI c ∧ ((nI c).toUInt32 % 65536).toInt32 = nI c ∧ nI c ≤ 255 := by decide +kernel
def sb_Fit (a : Nat → Int32) : Prop := ∀ j, fits .byte (.int (a j)) = true
def sb_Lat (t : Nat → Nat) (n : Nat) (a : Nat → Int32) : Prop := ∀ j, j < n → t j < 256 ∧ a j = sb_b (t j)
theorem sb_fitB (c : Nat) : fits .byte (.int (sb_b c)) = true := pk_fb _
theorem sb_fit0 : sb_Fit (fun _ => 0) := fun _ => by
  show fits .byte (.int 0) = true
  decide
theorem sb_fitU {a : Nat → Int32} {k : Nat} {x : Int32} (h : sb_Fit a) (hx : fits .byte (.int x) = true) : sb_Fit (upd a k x) := by
  intro j
  by_cases e : j = k
  · subst e
    rw [pk_us]
    exact hx
  · rw [pk_un e]
    exact h j
def sb_cat (t : Nat → Nat) (n : Nat) (s : Nat → Nat) : Nat → Nat := fun j => if j < n then t j else s (j - n)
theorem sb_cat_lo {t s : Nat → Nat} {n j : Nat} (h : j < n) : sb_cat t n s j = t j := if_pos h
theorem sb_cat_hi {t s : Nat → Nat} {n j : Nat} : sb_cat t n s (n + j) = s j := by
  show (if n + j < n then t (n + j) else s (n + j - n)) = s j
  rw [if_neg (by omega), Nat.add_sub_cancel_left]
theorem sb_latPut {t s : Nat → Nat} {n w : Nat} {a a' : Nat → Int32} (h : sb_Lat t n a) (hk : ∀ j, j < n → a' j = a j) (hs : ∀ i, i < w → s i < 256 ∧ a' (n + i) = sb_b (s i)) : sb_Lat (sb_cat t n s) (n + w) a' := by
  intro j hj
  by_cases e : j < n
  · rw [sb_cat_lo e, hk j e]
    exact h j e
  · obtain ⟨i, rfl⟩ : ∃ i, j = n + i := ⟨j - n, by omega⟩
    rw [sb_cat_hi]
    exact hs i (by omega)
theorem sb_latKeep {t : Nat → Nat} {n : Nat} {a a' : Nat → Int32} (h : sb_Lat t n a) (hk : ∀ j, j < n → a' j = a j) : sb_Lat t n a' := fun j hj => by
  rw [hk j hj]
  exact h j hj
def sb_cap (q m : Nat) : Nat := if q ≤ m then m else if 2 * m + 2 < q then q else 2 * m + 2
def sb_Room (q m mc ms : Nat) : Prop := q ≤ m ∨ (1 ≤ mc ∧ sb_cap q m ≤ ms ∧ sb_cap q m ≤ 65536)
theorem sb_cap_ge (q m : Nat) : q ≤ sb_cap q m := by
  unfold sb_cap
  split
  · omega
  · split <;> omega
theorem sb_cap_gem (q m : Nat) : m ≤ sb_cap q m := by
  unfold sb_cap
  split
  · omega
  · split <;> omega
theorem sb_cap_le {q m mc ms : Nat} (hm : m ≤ 65536) (hr : sb_Room q m mc ms) : sb_cap q m ≤ 65536 := by
  rcases hr with h | h
  · rw [sb_cap, if_pos h]
    exact hm
  · exact h.2.2
theorem sb_at {P : Int32 → Prop} {x y : Int32} (e : x = y) (h : P y) : P x := e ▸ h
def sb_dg (w : Nat) : Nat := if w < 10 then 1 else if w < 100 then 2 else if w < 1000 then 3 else if w < 10000 then 4 else if w < 100000 then 5 else if w < 1000000 then 6 else if w < 10000000 then 7 else if w < 100000000 then 8 else if w < 1000000000 then 9 else 10
def sb_dec (v : Nat) : Nat → Nat := fun i => 48 + v / 10 ^ (sb_dg v - 1 - i) % 10
theorem sb_dg_in (w : Nat) : 1 ≤ sb_dg w ∧ sb_dg w ≤ 10 := by
  unfold sb_dg
  constructor <;> (repeat' split) <;> omega
theorem sb_dg100 {w : Nat} (h : 100 ≤ w) (hw : w < 2 ^ 31) : sb_dg w = sb_dg (w / 100) + 2 := by
  rw [sb_dg, sb_dg, if_neg (show ¬ w < 10 by omega), if_neg (show ¬ w < 100 by omega)]
  by_cases h3 : w < 1000
  · rw [if_pos h3, if_pos (show w / 100 < 10 by omega)]
  rw [if_neg h3, if_neg (show ¬ w / 100 < 10 by omega)]
  by_cases h4 : w < 10000
  · rw [if_pos h4, if_pos (show w / 100 < 100 by omega)]
  rw [if_neg h4, if_neg (show ¬ w / 100 < 100 by omega)]
  by_cases h5 : w < 100000
  · rw [if_pos h5, if_pos (show w / 100 < 1000 by omega)]
  rw [if_neg h5, if_neg (show ¬ w / 100 < 1000 by omega)]
  by_cases h6 : w < 1000000
  · rw [if_pos h6, if_pos (show w / 100 < 10000 by omega)]
  rw [if_neg h6, if_neg (show ¬ w / 100 < 10000 by omega)]
  by_cases h7 : w < 10000000
  · rw [if_pos h7, if_pos (show w / 100 < 100000 by omega)]
  rw [if_neg h7, if_neg (show ¬ w / 100 < 100000 by omega)]
  by_cases h8 : w < 100000000
  · rw [if_pos h8, if_pos (show w / 100 < 1000000 by omega)]
  rw [if_neg h8, if_neg (show ¬ w / 100 < 1000000 by omega)]
  by_cases h9 : w < 1000000000
  · rw [if_pos h9, if_pos (show w / 100 < 10000000 by omega)]
  rw [if_neg h9, if_neg (show ¬ w / 100 < 10000000 by omega)]
  rw [if_pos (show w / 100 < 100000000 by omega)]
theorem sb_negT {w : Nat} (h : w < 2 ^ 31) : (-nI w).toInt = -(w : Int) := by
  rw [Int32.toInt_neg, nI_toInt h]
  exact Int.bmod_eq_of_le (by omega) (by omega)
theorem sb_nle {a b : Nat} (ha : a < 2 ^ 31) (hb : b < 2 ^ 31) : -nI a ≤ -nI b ↔ b ≤ a := by
  rw [Int32.le_iff_toInt_le, sb_negT ha, sb_negT hb]
  omega
theorem sb_nlt {a b : Nat} (ha : a < 2 ^ 31) (hb : b < 2 ^ 31) : -nI a < -nI b ↔ b < a := by
  rw [Int32.lt_iff_toInt_lt, sb_negT ha, sb_negT hb]
  omega
theorem sb_cmp {A B : Prop} {x : Int32} (v c : Nat) (f : c ≤ v → A) (g : v < c → B) (hv : v < 2 ^ 31) (hx : x = -nI c := by rfl) (hc : c < 2 ^ 31 := by omega) : (-nI v ≤ x → A) ∧ (¬ -nI v ≤ x → B) := by
  subst hx
  rw [sb_nle hv hc]
  exact ⟨f, fun z => g (by omega)⟩
theorem sb_ndiv {w : Nat} (hw : w < 2 ^ 31) : (-nI w) / 100 = -nI (w / 100) := by
  apply Int32.toInt_inj.mp
  have h100 : (100 : Int32).toInt = 100 := by decide
  rw [Int32.toInt_div, sb_negT hw, h100, sb_negT (by omega), Int.neg_tdiv, Int.tdiv_eq_ediv_of_nonneg (by omega), Int.bmod_eq_of_le (by omega) (by omega)]
  omega
theorem sb_nrem {w : Nat} (hw : w < 2 ^ 31) : (-nI (w / 100)) * 100 - (-nI w) = nI (w % 100) := by
  have h := pk_rem (a := w) (d := 100) hw (by decide) (by decide)
  rw [pk_div hw (by decide) (by decide)] at h
  rw [← h]
  show (-nI (w / 100)) * nI 100 - (-nI w) = nI w - nI (w / 100) * nI 100
  rw [Int32.neg_mul, Int32.sub_neg, Int32.add_comm, ← Int32.sub_eq_add_neg]
/-! rows on bits, shifts and unsigned numbers, to paste: each family out of a closed proof of our own, whole with what it rests on; each by itself clean at Lean in its own claim (generation 39, form 5). Take a family whole -/
/-! ===== Int32 by its bits: bt x i ===== -/
def bt (x : Int32) (i : Nat) : Bool := x.toBitVec.getLsbD i
theorem b_ext {x y : Int32} (h : ∀ i, i < 32 → bt x i = bt y i) : x = y := Int32.toBitVec_inj.mp (BitVec.eq_of_getLsbD_eq (fun i hi => h i hi))
theorem b_or (x y : Int32) (i : Nat) : bt (x ||| y) i = (bt x i || bt y i) := by unfold bt; rw [Int32.toBitVec_or, BitVec.getLsbD_or]
theorem b_and (x y : Int32) (i : Nat) : bt (x &&& y) i = (bt x i && bt y i) := by unfold bt; rw [Int32.toBitVec_and, BitVec.getLsbD_and]
theorem b_xor (x y : Int32) (i : Nat) : bt (x ^^^ y) i = (bt x i ^^ bt y i) := by unfold bt; rw [Int32.toBitVec_xor, BitVec.getLsbD_xor]
theorem b_big {x : Int32} {i : Nat} (h : 32 ≤ i) : bt x i = false := BitVec.getLsbD_of_ge _ _ h
theorem b_255 (i : Nat) : bt 255 i = decide (i < 8) := by
  rcases Nat.lt_or_ge i 32 with h | h
  · exact (by decide +kernel : ∀ i, i < 32 → bt 255 i = decide (i < 8)) i h
  · rw [b_big h, decide_eq_false (by omega)]
theorem b_65535 (i : Nat) : bt 65535 i = decide (i < 16) := by
  rcases Nat.lt_or_ge i 32 with h | h
  · exact (by decide +kernel : ∀ i, i < 32 → bt 65535 i = decide (i < 16)) i h
  · rw [b_big h, decide_eq_false (by omega)]
theorem b_m1 : ∀ i, i < 32 → bt (-1) i = true := by decide +kernel
theorem b_0 (i : Nat) : bt 0 i = false := BitVec.getLsbD_zero
theorem s_l : ∀ n, n < 32 → ((nI n &&& 31).toBitVec.smod 32).toNat = n := by decide +kernel
theorem s_u : ∀ n, n < 32 → (((nI n).toUInt32 &&& Int32.toUInt32 31).toBitVec % 32).toNat = n := by decide +kernel
theorem b_shl (n : Nat) (hn : n < 32) (x : Int32) {i : Nat} (hi : i < 32) : bt (x <<< (nI n &&& 31)) i = (decide (n ≤ i) && bt x (i - n)) := by
  unfold bt
  rw [Int32.toBitVec_shiftLeft]
  show (x.toBitVec <<< ((nI n &&& 31).toBitVec.smod 32).toNat).getLsbD i = _
  rw [s_l n hn, BitVec.getLsbD_shiftLeft]
  rcases Nat.lt_or_ge i n with h | h
  · simp [h, Nat.not_le.mpr h]
  · simp [hi, h, Nat.not_lt.mpr h]
theorem b_ushr (n : Nat) (hn : n < 32) (x : Int32) (i : Nat) : bt ((x.toUInt32 >>> ((nI n).toUInt32 &&& Int32.toUInt32 31)).toInt32) i = bt x (n + i) := by
  show (x.toUInt32 >>> ((nI n).toUInt32 &&& Int32.toUInt32 31)).toBitVec.getLsbD i = x.toUInt32.toBitVec.getLsbD (n + i)
  rw [UInt32.toBitVec_shiftRight]
  show (x.toUInt32.toBitVec >>> (((nI n).toUInt32 &&& Int32.toUInt32 31).toBitVec % 32).toNat).getLsbD i = _
  rw [s_u n hn, BitVec.getLsbD_ushiftRight]
theorem b_sshr (n : Nat) (hn : n < 32) (x : Int32) {i : Nat} (hi : i < 32) : bt (x >>> (nI n &&& 31)) i = if n + i < 32 then bt x (n + i) else bt x 31 := by
  unfold bt
  rw [Int32.toBitVec_shiftRight]
  show (x.toBitVec.sshiftRight ((nI n &&& 31).toBitVec.smod 32).toNat).getLsbD i = _
  rw [s_l n hn, BitVec.getLsbD_sshiftRight, BitVec.msb_eq_getLsbD_last]
  simp [hi]
theorem b_shl8 (x : Int32) {i : Nat} (hi : i < 32) : bt (x <<< ((8 : Int32) &&& 31)) i = (decide (8 ≤ i) && bt x (i - 8)) := b_shl 8 (by omega) x hi
theorem b_shl16 (x : Int32) {i : Nat} (hi : i < 32) : bt (x <<< ((16 : Int32) &&& 31)) i = (decide (16 ≤ i) && bt x (i - 16)) := b_shl 16 (by omega) x hi
theorem b_shl24 (x : Int32) {i : Nat} (hi : i < 32) : bt (x <<< ((24 : Int32) &&& 31)) i = (decide (24 ≤ i) && bt x (i - 24)) := b_shl 24 (by omega) x hi
theorem b_sshr8 (x : Int32) {i : Nat} (hi : i < 32) : bt (x >>> ((8 : Int32) &&& 31)) i = if 8 + i < 32 then bt x (8 + i) else bt x 31 := b_sshr 8 (by omega) x hi
/-! ===== nI under and, xor, >>>, one bit, 65535 ===== -/
theorem nx_and (a b : Nat) : nI a &&& nI b = nI (a &&& b) := by
  apply Int32.toBitVec_inj.1
  show BitVec.ofNat 32 a &&& BitVec.ofNat 32 b = BitVec.ofNat 32 (a &&& b)
  apply BitVec.eq_of_getLsbD_eq
  intro i hi
  simp [hi]
theorem nx_xor (a b : Nat) : nI a ^^^ nI b = nI (a ^^^ b) := by
  apply Int32.toBitVec_inj.1
  show BitVec.ofNat 32 a ^^^ BitVec.ofNat 32 b = BitVec.ofNat 32 (a ^^^ b)
  apply BitVec.eq_of_getLsbD_eq
  intro i hi
  simp [hi]
theorem nx_cnt : ∀ j : Fin 32, (UInt32.ofNat j.val &&& Int32.toUInt32 31).toNat % 32 = j.val := by decide +kernel
theorem nx_ush {k j : Nat} (hk : k < 65536) (hj : j < 32) : ((nI k).toUInt32 >>> ((nI j).toUInt32 &&& Int32.toUInt32 31)).toInt32 = nI (k >>> j) := by
  have hs : k >>> j ≤ k := by
    rw [Nat.shiftRight_eq_div_pow]
    exact Nat.div_le_self _ _
  have e2 : UInt32.ofNat k >>> (UInt32.ofNat j &&& Int32.toUInt32 31) = UInt32.ofNat (k >>> j) := by
    apply UInt32.toNat_inj.1
    have h1 : (UInt32.ofNat k).toNat = k := Nat.mod_eq_of_lt (by omega)
    have h2 : (UInt32.ofNat (k >>> j)).toNat = k >>> j := Nat.mod_eq_of_lt (by omega)
    rw [UInt32.toNat_shiftRight, nx_cnt ⟨j, hj⟩, h1, h2]
  show (UInt32.ofNat k >>> (UInt32.ofNat j &&& Int32.toUInt32 31)).toInt32 = _
  rw [e2]
  rfl
theorem nx_bit {k j : Nat} (hk : k < 65536) (hj : j < 16) : (((nI k).toUInt32 >>> ((nI j).toUInt32 &&& Int32.toUInt32 31)).toInt32 &&& 1) = 0 ↔ k.testBit j = false := by
  rw [nx_ush hk (by omega)]
  show nI (k >>> j) &&& nI 1 = 0 ↔ _
  rw [nx_and, Nat.and_one_is_mod, ← nI_0, nI_eq (by omega) (by omega), Nat.testBit_eq_decide_div_mod_eq, Nat.shiftRight_eq_div_pow, decide_eq_false_iff_not]
  generalize k / 2 ^ j = z
  omega
theorem nx_mod (k : Nat) : nI k &&& 65535 = nI (k % 65536) := by
  show nI k &&& nI 65535 = _
  rw [nx_and, show (65535 : Nat) = 2 ^ 16 - 1 from rfl, Nat.and_two_pow_sub_one_eq_mod]
theorem nx_m16 {k : Nat} (h : k < 65536) : nI k &&& 65535 = nI k := by rw [nx_mod, Nat.mod_eq_of_lt h]
theorem nx_mask (x : Int32) : ∃ k, k < 65536 ∧ x &&& 65535 = nI k := by
  have e : x = nI x.toBitVec.toNat := by
    apply Int32.toBitVec_inj.1
    show x.toBitVec = BitVec.ofNat 32 x.toBitVec.toNat
    simp
  refine ⟨x.toBitVec.toNat % 65536, Nat.mod_lt _ (by omega), ?_⟩
  rw [← nx_mod, ← e]
/-! ===== Int32 as a set of bits: test, set ===== -/
def nf_M (m : Int32) : Nat := 4294967296 - m.toBitVec.toNat
theorem nf_sh : ∀ l, l < 32 → ((1 : Int32) <<< (nI l &&& 31)).toBitVec = BitVec.twoPow 32 l := by decide +kernel
theorem nf_sl : ∀ l, l < 32 → (((nI l).toUInt32 &&& Int32.toUInt32 31).toBitVec % 32).toNat = l := by decide +kernel
theorem nf_tp : ∀ l, l < 32 → BitVec.twoPow 32 l ≠ 0#32 := by decide +kernel
theorem nf_bit (m : Int32) (l : Nat) (hl : l < 32) : ((m.toUInt32 >>> ((nI l).toUInt32 &&& Int32.toUInt32 31)).toInt32 &&& 1) = 0 ↔ (m &&& ((1 : Int32) <<< (nI l &&& 31))) = 0 := by
  have e : ((m.toUInt32 >>> ((nI l).toUInt32 &&& Int32.toUInt32 31)).toInt32).toBitVec = m.toBitVec >>> l := by
    show m.toBitVec >>> (((nI l).toUInt32 &&& Int32.toUInt32 31).toBitVec % 32) = m.toBitVec >>> l
    rw [BitVec.ushiftRight_eq', nf_sl l hl]
  rw [← Int32.toBitVec_inj, ← Int32.toBitVec_inj, Int32.toBitVec_and, Int32.toBitVec_and, nf_sh l hl, e, BitVec.and_twoPow]
  show (m.toBitVec >>> l &&& 1#32) = 0#32 ↔ _ = 0#32
  rw [BitVec.and_one_eq_setWidth_ofBool_getLsbD, BitVec.getLsbD_ushiftRight, Nat.add_zero]
  cases hb : m.toBitVec.getLsbD l
  · exact ⟨fun _ => by simp, fun _ => by decide⟩
  · exact ⟨fun z => absurd z (by decide), fun z => absurd ((if_pos rfl).symm.trans z) (nf_tp l hl)⟩
theorem nf_gr (m k : Int32) (h : m &&& k = 0) (hk : k ≠ 0) : nf_M (m ||| k) < nf_M m := by
  have hm := m.toBitVec.isLt
  have hm' := (m ||| k).toBitVec.isLt
  have h1 : m.toBitVec.toNat ≤ (m ||| k).toBitVec.toNat := by
    rw [Int32.toBitVec_or, BitVec.toNat_or]
    exact Nat.left_le_or
  have h2 : m.toBitVec.toNat ≠ (m ||| k).toBitVec.toNat := by
    intro e
    have e2 : m = m ||| k := Int32.toBitVec_inj.mp (BitVec.eq_of_toNat_eq e)
    apply hk
    apply Int32.toBitVec_inj.mp
    show k.toBitVec = 0#32
    apply BitVec.eq_of_getLsbD_eq
    intro i hi
    have a : m.toBitVec.getLsbD i = (m.toBitVec.getLsbD i || k.toBitVec.getLsbD i) := by rw [← BitVec.getLsbD_or, ← Int32.toBitVec_or, ← e2]
    have b : (m.toBitVec.getLsbD i && k.toBitVec.getLsbD i) = false := by
      rw [← BitVec.getLsbD_and, ← Int32.toBitVec_and, h]
      exact BitVec.getLsbD_zero
    rw [BitVec.getLsbD_zero]
    revert a b
    cases m.toBitVec.getLsbD i <;> cases k.toBitVec.getLsbD i <;> simp
  unfold nf_M
  omega
/-! ===== a byte read unsigned ===== -/
theorem bp_b (x : Int32) : x.toInt8.toInt32 &&& 255 = x &&& 255 := by
  apply Int32.toBitVec_inj.mp
  rw [Int32.toBitVec_and, Int32.toBitVec_and, Int8.toBitVec_toInt32, Int32.toBitVec_toInt8]
  apply BitVec.eq_of_getLsbD_eq
  intro i hi
  rw [BitVec.getLsbD_and, BitVec.getLsbD_and]
  have hm : ∀ i < 32, 8 ≤ i → (255 : Int32).toBitVec.getLsbD i = false := by decide
  rcases Nat.lt_or_ge i 8 with z | z
  · rw [BitVec.getLsbD_signExtend, BitVec.getLsbD_signExtend, if_pos z, if_pos hi]
    simp only [z, hi, decide_true, Bool.true_and]
  · rw [hm i hi z]; simp
/-! ===== the char cast and 65535 ===== -/
theorem em_w (v : Int32) : ∃ w : Nat, w < 65536 ∧ (v.toUInt32 % 65536).toInt32 = nI w ∧ v &&& 65535 = nI w := by
  have hr := lw_u16_r v
  have h0 : (0 : Int32).toInt = 0 := by decide
  obtain ⟨w, h1, h2⟩ := nI_of (x := lw_u16 v) (by rw [Int32.lt_iff_toInt_lt]; omega)
  have h3 : (v.toUInt32 % 65536).toInt32 = nI w := h2
  rw [h2, nI_toInt h1] at hr
  exact ⟨w, by omega, h3, by rw [← lg_i2c_mask, ← lg_i2c_nf, h3]⟩
/-! ===== Int64 as a set of bits: test, set, clear ===== -/
theorem ts_nf {x : Bool} (h : ¬ x = false) : x = true := by cases x <;> first | rfl | exact absurd rfl h
theorem ts_nt {x : Bool} (h : ¬ x = true) : x = false := by cases x <;> first | rfl | exact absurd rfl h
theorem ts_bit {w : Int64} {s : UInt64} {j : Nat} (hj : j < 64) (hs : s.toNat = j) : ((w.toUInt64 >>> s).toInt64 &&& 1) = 0 ↔ w.toBitVec.getLsbD j = false := by
  have e : (w.toUInt64 >>> s).toInt64.toBitVec = w.toBitVec >>> j := by
    apply BitVec.eq_of_toNat_eq
    show (w.toUInt64 >>> s).toNat = _
    rw [UInt64.toNat_shiftRight, hs, Nat.mod_eq_of_lt hj, BitVec.toNat_ushiftRight]
    rfl
  rw [← Int64.toBitVec_inj, Int64.toBitVec_and, e]
  show w.toBitVec >>> j &&& 1#64 = 0#64 ↔ _
  constructor
  · intro h
    have t := congrArg (fun x => x.getLsbD 0) h
    simpa using t
  · intro h
    apply BitVec.eq_of_getLsbD_eq
    intro i hi
    cases i with
    | zero => simp [h]
    | succ i => simp
theorem ts_or {w m : Int64} {j : Nat} (hj : j < 64) (hm : m.toBitVec = BitVec.twoPow 64 j) : (w ||| m) = w ↔ w.toBitVec.getLsbD j = true := by
  rw [← Int64.toBitVec_inj, Int64.toBitVec_or, hm]
  constructor
  · intro h
    have t := congrArg (fun x => x.getLsbD j) h
    simp only [BitVec.getLsbD_or, BitVec.getLsbD_twoPow] at t
    simpa [hj] using t.symm
  · intro h
    apply BitVec.eq_of_getLsbD_eq
    intro i hi
    rw [BitVec.getLsbD_or, BitVec.getLsbD_twoPow]
    by_cases e : j = i
    · subst e; rw [h, Bool.true_or]
    · simp [e]
theorem ts_and {w m : Int64} {j : Nat} (hj : j < 64) (hm : m.toBitVec = BitVec.twoPow 64 j) : (w &&& (m ^^^ (-1))) = w ↔ w.toBitVec.getLsbD j = false := by
  have ha : (-1 : Int64).toBitVec = BitVec.allOnes 64 := by decide
  rw [← Int64.toBitVec_inj, Int64.toBitVec_and, Int64.toBitVec_xor, hm, ha]
  constructor
  · intro h
    have t := congrArg (fun x => x.getLsbD j) h
    simp only [BitVec.getLsbD_and, BitVec.getLsbD_xor, BitVec.getLsbD_twoPow, BitVec.getLsbD_allOnes] at t
    simpa [hj] using t.symm
  · intro h
    apply BitVec.eq_of_getLsbD_eq
    intro i hi
    rw [BitVec.getLsbD_and, BitVec.getLsbD_xor, BitVec.getLsbD_twoPow, BitVec.getLsbD_allOnes]
    by_cases e : j = i
    · subst e; rw [h, Bool.false_and]
    · simp [e, hi]
/-! ===== lN n to 2^64: shifts, and, or, masks, one bit ===== -/
theorem wb_tb (n : Nat) : (lN n).toBitVec = BitVec.ofNat 64 n := rfl
theorem wb_inj {a b : Int64} (h : a.toBitVec = b.toBitVec) : a = b := Int64.toBitVec_inj.mp h
theorem wb_tn {n : Nat} (h : n < 2 ^ 64) : (lN n).toBitVec.toNat = n := by rw [wb_tb, BitVec.toNat_ofNat, Nat.mod_eq_of_lt h]
theorem wb_of (x : Int64) : ∃ n, n < 2 ^ 64 ∧ x = lN n := ⟨x.toBitVec.toNat, x.toBitVec.isLt, wb_inj (by rw [wb_tb]; simp)⟩
theorem wb_of32 (x : Int32) : ∃ n, n < 2 ^ 32 ∧ x = nI n := ⟨x.toBitVec.toNat, x.toBitVec.isLt, Int32.toBitVec_inj.mp (by show _ = BitVec.ofNat 32 _; simp)⟩
theorem wb_c : ∀ k, k < 64 → ((nI k).toInt64 &&& 63) = lN k := by decide +kernel
theorem wb_cu : ∀ k, k < 64 → ((nI k).toInt64.toUInt64 &&& Int64.toUInt64 63) = UInt64.ofNat k := by decide +kernel
theorem wb_sm : ∀ k, k < 64 → (BitVec.ofNat 64 k).smod 64 = BitVec.ofNat 64 k := by decide +kernel
theorem wb_pw {a b : Nat} (h : a ≤ b) : 2 ^ b = 2 ^ a * 2 ^ (b - a) := by rw [← Nat.pow_add]; congr 1; omega
theorem wb_lt2 {a b : Nat} (h : a < b) : 2 ^ a < 2 ^ b := Nat.pow_lt_pow_right (by decide) h
theorem wb_mod (n : Nat) : lN n = lN (n % 2 ^ 64) := wb_inj (by rw [wb_tb, wb_tb]; apply BitVec.eq_of_toNat_eq; rw [BitVec.toNat_ofNat, BitVec.toNat_ofNat, Nat.mod_mod])
theorem wb_shr {n k : Nat} (hn : n < 2 ^ 64) (hk : k < 64) : ((lN n).toUInt64 >>> ((nI k).toInt64.toUInt64 &&& Int64.toUInt64 63)).toInt64 = lN (n / 2 ^ k) := by
  rw [wb_cu k hk]
  apply wb_inj
  apply BitVec.eq_of_toNat_eq
  show ((lN n).toUInt64 >>> UInt64.ofNat k).toNat = (BitVec.ofNat 64 _).toNat
  have h1 : (UInt64.ofNat k).toNat = k := by
    show (BitVec.ofNat 64 k).toNat = k
    rw [BitVec.toNat_ofNat, Nat.mod_eq_of_lt (by omega)]
  have h2 : (lN n).toUInt64.toNat = n := wb_tn hn
  rw [UInt64.toNat_shiftRight, h1, h2, Nat.mod_eq_of_lt hk, Nat.shiftRight_eq_div_pow, BitVec.toNat_ofNat, Nat.mod_eq_of_lt (Nat.lt_of_le_of_lt (Nat.div_le_self _ _) hn)]
theorem wb_shl (n : Nat) {k : Nat} (hk : k < 64) : lN n <<< ((nI k).toInt64 &&& 63) = lN (n * 2 ^ k) := by
  rw [wb_c k hk]
  apply wb_inj
  rw [Int64.toBitVec_shiftLeft, wb_tb, wb_tb, wb_tb, wb_sm k hk]
  apply BitVec.eq_of_toNat_eq
  rw [BitVec.shiftLeft_eq', BitVec.toNat_shiftLeft, BitVec.toNat_ofNat, BitVec.toNat_ofNat, BitVec.toNat_ofNat, Nat.mod_eq_of_lt (show k < 2 ^ 64 by omega), Nat.shiftLeft_eq, Nat.mul_mod, Nat.mod_mod, ← Nat.mul_mod]
theorem wb_and {a b : Nat} (ha : a < 2 ^ 64) (hb : b < 2 ^ 64) : lN a &&& lN b = lN (a &&& b) := by
  apply wb_inj
  rw [Int64.toBitVec_and, wb_tb, wb_tb, wb_tb]
  apply BitVec.eq_of_toNat_eq
  rw [BitVec.toNat_and, BitVec.toNat_ofNat, BitVec.toNat_ofNat, BitVec.toNat_ofNat, Nat.mod_eq_of_lt ha, Nat.mod_eq_of_lt hb, Nat.mod_eq_of_lt (Nat.and_lt_two_pow _ hb)]
theorem wb_or {a b : Nat} (ha : a < 2 ^ 64) (hb : b < 2 ^ 64) : lN a ||| lN b = lN (a ||| b) := by
  apply wb_inj
  rw [Int64.toBitVec_or, wb_tb, wb_tb, wb_tb]
  apply BitVec.eq_of_toNat_eq
  rw [BitVec.toNat_or, BitVec.toNat_ofNat, BitVec.toNat_ofNat, BitVec.toNat_ofNat, Nat.mod_eq_of_lt ha, Nat.mod_eq_of_lt hb, Nat.mod_eq_of_lt (Nat.or_lt_two_pow ha hb)]
theorem wb_mask {n k : Nat} (hn : n < 2 ^ 64) (hk : k < 64) : lN n &&& lN (2 ^ k - 1) = lN (n % 2 ^ k) := by
  rw [wb_and hn (by have := wb_lt2 hk; omega), Nat.and_two_pow_sub_one_eq_mod]
theorem wb_a1 {n : Nat} (hn : n < 2 ^ 64) : lN n &&& 1 = lN (n % 2) := wb_mask (k := 1) hn (by decide)
theorem wb_bit {n k : Nat} (hn : n < 2 ^ 64) (hk : k < 64) : ((lN n).toUInt64 >>> ((nI k).toInt64.toUInt64 &&& Int64.toUInt64 63)).toInt64 &&& 1 = lN (n / 2 ^ k % 2) := by
  rw [wb_shr hn hk, wb_a1 (Nat.lt_of_le_of_lt (Nat.div_le_self _ _) hn)]
theorem wb_xor {q k : Nat} (hk : k < 63) (h : 2 ^ k ≤ q) (h2 : q < 2 ^ (k + 1)) : lN q ^^^ lN (2 ^ k) = lN (q - 2 ^ k) := by
  obtain ⟨r, rfl⟩ : ∃ r, q = 2 ^ k + r := ⟨q - 2 ^ k, by omega⟩
  have hr : r < 2 ^ k := by rw [Nat.pow_succ] at h2; omega
  have hx : (2 ^ k + r) ^^^ 2 ^ k = r := by
    apply Nat.eq_of_testBit_eq
    intro i
    rw [Nat.testBit_xor, Nat.testBit_two_pow]
    rcases Nat.lt_trichotomy i k with h | h | h
    · rw [Nat.testBit_two_pow_add_gt h]
      simp [show ¬ k = i by omega]
    · subst h
      rw [Nat.testBit_two_pow_add_eq]
      simp
    · have a1 : 2 ^ (k + 1) ≤ 2 ^ i := Nat.pow_le_pow_right (by decide) h
      rw [Nat.testBit_lt_two_pow (show 2 ^ k + r < 2 ^ i by omega), Nat.testBit_lt_two_pow (show r < 2 ^ i by omega)]
      simp [show ¬ k = i by omega]
  have b1 := wb_lt2 (show k + 1 < 64 by omega)
  have b2 := wb_lt2 (show k < 64 by omega)
  apply wb_inj
  rw [Int64.toBitVec_xor, wb_tb, wb_tb, wb_tb]
  apply BitVec.eq_of_toNat_eq
  rw [BitVec.toNat_xor, BitVec.toNat_ofNat, BitVec.toNat_ofNat, BitVec.toNat_ofNat, Nat.mod_eq_of_lt (by omega : 2 ^ k + r < 2 ^ 64), Nat.mod_eq_of_lt b2, hx, Nat.add_sub_cancel_left, Nat.mod_eq_of_lt (by omega)]
/-! ===== lN: masks, 'or' of parts that don't overlap is a sum ===== -/
theorem u_tn {n : Nat} (h : n < 2 ^ 64) : (UInt64.ofNat n).toNat = n := Nat.mod_eq_of_lt h
theorem g_and {a b c : Nat} (ha : a < 2 ^ 64) (hb : b < 2 ^ 64) (hc : a &&& b = c) : lN a &&& lN b = lN c := by
  subst hc
  have h : UInt64.ofNat a &&& UInt64.ofNat b = UInt64.ofNat (a &&& b) := UInt64.toNat_inj.mp (by rw [UInt64.toNat_and, u_tn ha, u_tn hb, u_tn (Nat.and_lt_two_pow a hb)])
  have h2 := congrArg UInt64.toInt64 h
  exact h2
theorem g_and1 {a : Nat} (ha : a < 2 ^ 64) : lN a &&& 1 = lN (a % 2) := g_and (b := 1) ha (by decide) (Nat.and_two_pow_sub_one_eq_mod a 1)
theorem g_mask {a s p : Nat} (hp : 2 ^ s = p) (hs : s < 64) (ha : a < 2 ^ 64) : lN a &&& lN (p - 1) = lN (a % p) := by
  subst hp
  have := Nat.pow_lt_pow_right (show 1 < 2 by decide) hs
  exact g_and ha (by omega) (Nat.and_two_pow_sub_one_eq_mod a s)
theorem g_or {k p a b : Nat} (hp : 2 ^ k = p) (ha : a < p) (h : b * p + a < 2 ^ 64) : lN (b * p) ||| lN a = lN (b * p + a) := by
  subst hp
  have h1 : b * 2 ^ k ||| a = b * 2 ^ k + a := by rw [← Nat.shiftLeft_eq, Nat.shiftLeft_add_eq_or_of_lt ha]
  have h3 : UInt64.ofNat (b * 2 ^ k) ||| UInt64.ofNat a = UInt64.ofNat (b * 2 ^ k + a) := UInt64.toNat_inj.mp (by rw [UInt64.toNat_or, u_tn (by omega), u_tn (by omega), u_tn h, h1])
  have h2 := congrArg UInt64.toInt64 h3
  exact h2
theorem g_or' {k p a b : Nat} (hp : 2 ^ k = p) (ha : a < p) (h : a + b * p < 2 ^ 64) : lN a ||| lN (b * p) = lN (a + b * p) := by
  rw [Int64.or_comm, g_or hp ha (by omega), Nat.add_comm]
theorem g_ushr {a k p : Nat} {y : UInt64} (hy : y = UInt64.ofNat k) (hk : k < 64) (hp : 2 ^ k = p) (ha : a < 2 ^ 64) : ((lN a).toUInt64 >>> y).toInt64 = lN (a / p) := by
  subst hy hp
  have h : UInt64.ofNat a >>> UInt64.ofNat k = UInt64.ofNat (a / 2 ^ k) := UInt64.toNat_inj.mp (by rw [UInt64.toNat_shiftRight, u_tn ha, u_tn (by omega), u_tn (Nat.lt_of_le_of_lt (Nat.div_le_self _ _) ha), Nat.mod_eq_of_lt hk, Nat.shiftRight_eq_div_pow])
  have h2 := congrArg UInt64.toInt64 h
  exact h2
theorem g_shl {a k p : Nat} {y : Int64} (hy : y.toBitVec.smod 64 = BitVec.ofNat 64 k) (hk : k < 64) (hp : 2 ^ k = p) (ha : a < 2 ^ 64) : lN a <<< y = lN (a * p) := by
  subst hp
  apply Int64.toBitVec_inj.mp
  rw [Int64.toBitVec_shiftLeft, hy]
  apply BitVec.eq_of_toNat_eq
  have hb : (lN a).toBitVec.toNat = a := Nat.mod_eq_of_lt ha
  have hk' : (BitVec.ofNat 64 k).toNat = k := Nat.mod_eq_of_lt (by omega)
  have h : ((lN a).toBitVec <<< BitVec.ofNat 64 k).toNat = (a * 2 ^ k) % 2 ^ 64 := by simp only [BitVec.shiftLeft_eq', BitVec.toNat_shiftLeft, hb, hk', Nat.shiftLeft_eq]
  exact h
/-! ===== lN to 2^62 under >> and >>> ===== -/
theorem pf_lI {a : Nat} (h : a < 2 ^ 63) : (lN a).toInt = (a : Int) := lg_ofNat_toInt h
theorem pf_shr {a d : Nat} {D : Int64} (hD : (D.toBitVec.smod 64).toNat = d) (h : a < 2 ^ 62) : lN a >>> D = lN (a / 2 ^ d) := by
  have hd : a / 2 ^ d ≤ a := Nat.div_le_self _ _
  apply Int64.toInt_inj.mp
  have e : (lN a >>> D).toInt = (lN a).toInt >>> d := by
    rw [← hD]
    exact BitVec.toInt_sshiftRight ..
  rw [e, Int.shiftRight_eq_div_pow, pf_lI (by omega), pf_lI (by omega)]
  rfl
theorem pf_ushr {a d : Nat} {D : UInt64} (hD : D.toNat % 64 = d) (h : a < 2 ^ 62) : ((lN a).toUInt64 >>> D).toInt64 = lN (a / 2 ^ d) := by
  have hd : a / 2 ^ d ≤ a := Nat.div_le_self _ _
  have e : (lN a).toUInt64 >>> D = UInt64.ofNat (a / 2 ^ d) := UInt64.toNat_inj.mp (by
    rw [UInt64.toNat_shiftRight, hD, Nat.shiftRight_eq_div_pow, UInt64.toNat_ofNat']
    show (UInt64.ofNat a).toNat / 2 ^ d = _
    rw [UInt64.toNat_ofNat', Nat.mod_eq_of_lt (by omega), Nat.mod_eq_of_lt (by omega)])
  rw [e]
  rfl
theorem pf_andw (x : Int64) : ∃ m, m < 2 ^ 32 ∧ x &&& 4294967295 = lN m := ⟨x.toBitVec.toNat % 2 ^ 32, Nat.mod_lt _ (by decide), Int64.toBitVec_inj.mp (BitVec.eq_of_toNat_eq (by
  show (x.toBitVec &&& 4294967295#64).toNat = (BitVec.ofNat 64 (x.toBitVec.toNat % 2 ^ 32)).toNat
  rw [BitVec.toNat_and, show (4294967295#64).toNat = 2 ^ 32 - 1 from by decide, Nat.and_two_pow_sub_one_eq_mod, BitVec.toNat_ofNat]
  omega))⟩
/-! ===== Int64 as an unsigned number: uN x ===== -/
def uN (x : Int64) : Nat := x.toUInt64.toNat
theorem uN_lt (x : Int64) : uN x < 18446744073709551616 := x.toUInt64.toNat_lt
theorem uN_inj {x y : Int64} (h : uN x = uN y) : x = y := congrArg UInt64.toInt64 (UInt64.toNat_inj.mp h)
theorem uN_add (x y : Int64) : uN (x + y) = (uN x + uN y) % 18446744073709551616 := by
  show (x.toUInt64 + y.toUInt64).toNat = _
  exact UInt64.toNat_add _ _
theorem uN_mul (x y : Int64) : uN (x * y) = (uN x * uN y) % 18446744073709551616 := by
  show (x.toUInt64 * y.toUInt64).toNat = _
  exact UInt64.toNat_mul _ _
theorem uN_shl (x : Int64) : uN (x <<< ((1 : Int32).toInt64 &&& 63)) = (2 * uN x) % 18446744073709551616 := by
  have h : (((1 : Int32).toInt64 &&& 63).toBitVec.smod 64).toNat = 1 := by decide
  show (x.toBitVec <<< (((1 : Int32).toInt64 &&& 63).toBitVec.smod 64).toNat).toNat = _
  rw [h, BitVec.toNat_shiftLeft, Nat.shiftLeft_eq, Nat.mul_comm]
  rfl
theorem uN_shr (x : Int64) (s : UInt64) : uN (x.toUInt64 >>> s).toInt64 = uN x / 2 ^ (s.toNat % 64) := by
  show (x.toUInt64 >>> s).toNat = _
  rw [UInt64.toNat_shiftRight, Nat.shiftRight_eq_div_pow]
  rfl
theorem uN_s32 (x : Int64) : uN (x.toUInt64 >>> ((32 : Int32).toInt64.toUInt64 &&& Int64.toUInt64 63)).toInt64 = uN x / 4294967296 := by
  have h : ((32 : Int32).toInt64.toUInt64 &&& Int64.toUInt64 63).toNat % 64 = 32 := by decide
  rw [uN_shr, h]
theorem uN_s63 (x : Int64) : uN (x.toUInt64 >>> ((63 : Int32).toInt64.toUInt64 &&& Int64.toUInt64 63)).toInt64 = uN x / 9223372036854775808 := by
  have h : ((63 : Int32).toInt64.toUInt64 &&& Int64.toUInt64 63).toNat % 64 = 63 := by decide
  rw [uN_shr, h]
theorem uN_lo (x : Int64) : uN (x &&& 4294967295) = uN x % 4294967296 := by
  show (x.toUInt64 &&& Int64.toUInt64 4294967295).toNat = _
  rw [UInt64.toNat_and]
  exact Nat.and_two_pow_sub_one_eq_mod _ 32
theorem uN_bit (x : Int64) : (x &&& 1) = 0 ↔ uN x % 2 = 0 := by
  have h : uN (x &&& 1) = uN x % 2 := by
    show (x.toUInt64 &&& Int64.toUInt64 1).toNat = _
    rw [UInt64.toNat_and]
    exact Nat.and_two_pow_sub_one_eq_mod _ 1
  rw [← h]
  exact ⟨fun z => by rw [z]; rfl, fun z => uN_inj (z.trans rfl)⟩
theorem uN_or {x y : Int64} (hy : uN y < 2) : uN ((x <<< ((1 : Int32).toInt64 &&& 63)) ||| y) = (2 * uN x) % 18446744073709551616 + uN y := by
  have h1 : uN ((x <<< ((1 : Int32).toInt64 &&& 63)) ||| y) = uN (x <<< ((1 : Int32).toInt64 &&& 63)) ||| uN y := UInt64.toNat_or _ _
  have h2 : (2 * uN x) % 18446744073709551616 = 2 ^ 1 * (uN x % 9223372036854775808) := by omega
  rw [h1, uN_shl, h2]
  exact (Nat.two_pow_add_eq_or_of_lt (i := 1) hy _).symm
theorem nat_xor {a : Nat} (h : a < 18446744073709551616) : a ^^^ 2 ^ 63 = (a + 9223372036854775808) % 18446744073709551616 := by
  have h1 : (a ^^^ 2 ^ 63) % 2 ^ 63 = a % 2 ^ 63 := by rw [Nat.xor_mod_two_pow, Nat.mod_self, Nat.xor_zero]
  have h2 : (a ^^^ 2 ^ 63) / 2 ^ 63 = (a / 2 ^ 63) ^^^ 1 := by rw [Nat.xor_div_two_pow, Nat.div_self (Nat.two_pow_pos 63)]
  have h3 : a / 2 ^ 63 = 0 ∨ a / 2 ^ 63 = 1 := by omega
  generalize a ^^^ 2 ^ 63 = t at h1 h2
  rcases h3 with h3 | h3
  · rw [h3] at h2
    have h2 : t / 2 ^ 63 = 1 := h2
    omega
  · rw [h3] at h2
    have h2 : t / 2 ^ 63 = 0 := h2
    omega
theorem uN_xor (x : Int64) : uN (x ^^^ (-9223372036854775808)) = (uN x + 9223372036854775808) % 18446744073709551616 := by
  rw [← nat_xor (uN_lt x)]
  exact UInt64.toNat_xor _ _
theorem uN_int (x : Int64) : x.toInt = if 2 * uN x < 18446744073709551616 then (uN x : Int) else (uN x : Int) - 18446744073709551616 := BitVec.toInt_eq_toNat_cond _
theorem uN_le (x y : Int64) : (x ^^^ (-9223372036854775808)) ≤ (y ^^^ (-9223372036854775808)) ↔ uN x ≤ uN y := by
  have hx := uN_lt x
  have hy := uN_lt y
  rw [Int64.le_iff_toInt_le, uN_int, uN_int, uN_xor, uN_xor]
  omega
theorem uN_sk (x : Int64) {k : Nat} (hk : k < 64) : uN (x.toUInt64 >>> ((nI k).toInt64.toUInt64 &&& Int64.toUInt64 63)).toInt64 = uN x / 2 ^ k := by
  have h : ((nI k).toInt64.toUInt64 &&& Int64.toUInt64 63).toNat % 64 = k := by
    rw [nI_l (by omega), UInt64.toNat_and]
    have e : (lN k).toUInt64.toNat = k % 2 ^ 64 := rfl
    have e2 : (Int64.toUInt64 63).toNat = 2 ^ 6 - 1 := by decide
    rw [e, e2, Nat.and_two_pow_sub_one_eq_mod]
    omega
  rw [uN_shr, h]
/-! ===== unsigned comparison by xor with the least ===== -/
theorem lN_bv (n : Nat) : (lN n).toBitVec = BitVec.ofNat 64 n := rfl
theorem lN_nat {n : Nat} (h : n < 2 ^ 64) : (lN n).toBitVec.toNat = n := by rw [lN_bv, BitVec.toNat_ofNat]; exact Nat.mod_eq_of_lt h
theorem lN_xor (a b : Nat) : lN a ^^^ lN b = lN (a ^^^ b) := by
  apply Int64.toBitVec_inj.mp; rw [Int64.toBitVec_xor, lN_bv, lN_bv, lN_bv]; apply BitVec.eq_of_getLsbD_eq; intro i hi; simp [BitVec.getLsbD_ofNat, Nat.testBit_xor, hi]
theorem lN_ti {m : Nat} (h : m < 2 ^ 64) : (lN m).toInt = if m < 2 ^ 63 then (m : Int) else (m : Int) - 2 ^ 64 := by
  have c := BitVec.toInt_eq_toNat_cond (lN m).toBitVec
  rw [lN_nat h] at c
  show (lN m).toBitVec.toInt = _
  rw [c]
  split <;> split <;> omega
theorem xor63 {x : Nat} (h : x < 2 ^ 63) : x ^^^ 2 ^ 63 = 2 ^ 63 + x := by
  apply Nat.eq_of_testBit_eq
  intro i
  rw [Nat.testBit_xor, Nat.testBit_two_pow]
  rcases Nat.lt_trichotomy i 63 with z | z | z
  · rw [Nat.testBit_two_pow_add_gt z, decide_eq_false (by omega)]; simp
  · subst z; rw [Nat.testBit_two_pow_add_eq]; simp
  · have hp : 2 ^ 64 ≤ 2 ^ i := Nat.pow_le_pow_right (by decide) z
    rw [Nat.testBit_lt_two_pow (show x < 2 ^ i by omega), Nat.testBit_lt_two_pow (show 2 ^ 63 + x < 2 ^ i by omega), decide_eq_false (by omega)]; rfl
theorem xorS {a : Nat} (h : a < 2 ^ 64) : (lN a ^^^ (-9223372036854775808)).toInt = (a : Int) - 2 ^ 63 := by
  rw [show (-9223372036854775808 : Int64) = lN (2 ^ 63) from by decide +kernel, lN_xor]
  rcases Nat.lt_or_ge a (2 ^ 63) with z | z
  · rw [xor63 z, lN_ti (by omega), if_neg (by omega)]; omega
  · obtain ⟨x, rfl⟩ : ∃ x, a = 2 ^ 63 + x := ⟨a - 2 ^ 63, by omega⟩
    rw [← xor63 (by omega), Nat.xor_assoc, Nat.xor_self, Nat.xor_zero, lN_ti (by omega), if_pos (by omega), xor63 (by omega)]; omega
theorem ultL {a b : Nat} (ha : a < 2 ^ 64) (hb : b < 2 ^ 64) : ((lN b ^^^ (-9223372036854775808)) ≤ (lN a ^^^ (-9223372036854775808))) ↔ b ≤ a := by
  rw [Int64.le_iff_toInt_le, xorS ha, xorS hb]; omega
/-! ===== Int64 masks of n low bits ===== -/
theorem cr_bits (W U M : BitVec 64) : ((W &&& U) &&& (U &&& (M ^^^ BitVec.allOnes 64))) = 0#64 ↔ (W &&& U) &&& M = W &&& U := by
  constructor
  · intro h
    apply BitVec.eq_of_getLsbD_eq
    intro i hi
    have e := congrArg (fun x => BitVec.getLsbD x i) h
    simp only [BitVec.getLsbD_and, BitVec.getLsbD_xor, BitVec.getLsbD_allOnes, BitVec.getLsbD_zero, hi, decide_true] at e ⊢
    revert e
    cases W.getLsbD i <;> cases U.getLsbD i <;> cases M.getLsbD i <;> decide
  · intro h
    apply BitVec.eq_of_getLsbD_eq
    intro i hi
    have e := congrArg (fun x => BitVec.getLsbD x i) h
    simp only [BitVec.getLsbD_and, BitVec.getLsbD_xor, BitVec.getLsbD_allOnes, BitVec.getLsbD_zero, hi, decide_true] at e ⊢
    revert e
    cases W.getLsbD i <;> cases U.getLsbD i <;> cases M.getLsbD i <;> decide
theorem cr_mask (w U m : Int64) (n : Nat) (hm : m.toBitVec.toNat = 2 ^ n - 1) : ((w &&& U) &&& (U &&& (m ^^^ (-1)))) = 0 ↔ (w &&& U).toBitVec.toNat < 2 ^ n := by
  have e0 : (-1 : Int64).toBitVec = BitVec.allOnes 64 := by decide
  have z0 : (0 : Int64).toBitVec = 0#64 := by decide
  rw [← Int64.toBitVec_inj, z0, Int64.toBitVec_and, Int64.toBitVec_and, Int64.toBitVec_and, Int64.toBitVec_xor, e0, cr_bits]
  generalize w.toBitVec &&& U.toBitVec = T
  rw [← BitVec.toNat_inj, BitVec.toNat_and, hm, Nat.and_two_pow_sub_one_eq_mod]
  constructor
  · intro h
    have t := Nat.mod_lt T.toNat (Nat.two_pow_pos n)
    rw [h] at t
    exact t
  · exact Nat.mod_eq_of_lt
theorem cr_shr (t : Int64) (x : UInt64) (n : Nat) (hx : x.toNat % 64 = n) : (t.toUInt64 >>> x).toInt64 = 0 ↔ t.toBitVec.toNat < 2 ^ n := by
  rw [← Int64.toBitVec_inj, ← BitVec.toNat_inj]
  show (t.toUInt64 >>> x).toNat = 0 ↔ t.toUInt64.toNat < 2 ^ n
  rw [UInt64.toNat_shiftRight, hx, Nat.shiftRight_eq_div_pow]
  constructor
  · intro h
    have d : t.toUInt64.toNat / 2 ^ n < 1 := by
      rw [h]
      decide
    have e := (Nat.div_lt_iff_lt_mul (Nat.two_pow_pos n)).mp d
    rw [Nat.one_mul] at e
    exact e
  · exact Nat.div_eq_of_lt
theorem cr_amt (s : Int64) : ∃ n, n < 64 ∧ s &&& 63 = lN n ∧ (s.toUInt64 &&& Int64.toUInt64 63).toNat % 64 = n := by
  have e : (s.toUInt64 &&& Int64.toUInt64 63).toNat = s.toUInt64.toNat % 2 ^ 6 := by
    rw [UInt64.toNat_and, show (Int64.toUInt64 63).toNat = 2 ^ 6 - 1 from by decide, Nat.and_two_pow_sub_one_eq_mod]
  refine ⟨s.toUInt64.toNat % 2 ^ 6, by omega, ?_, by omega⟩
  rw [← Int64.toBitVec_inj, ← BitVec.toNat_inj]
  show (s.toUInt64 &&& Int64.toUInt64 63).toNat = (BitVec.ofNat 64 (s.toUInt64.toNat % 2 ^ 6)).toNat
  rw [e, BitVec.toNat_ofNat]
  omega
end
section
/-! the range coder in plain numbers: chances, width, low end, shifts -/
def sq_cl (v b : Nat) : Nat := if b = 0 then v + (2048 - v) / 32 else v - v / 32
def sq_ln (c : Nat → Nat) (a b : Nat) : Nat → Nat := fun j => if j = a then sq_cl (c a) b else c j
theorem sq_cl_ok {v b : Nat} (h : 31 ≤ v ∧ v ≤ 2017) : 31 ≤ sq_cl v b ∧ sq_cl v b ≤ 2017 := by
  unfold sq_cl; split <;> omega
def sq_cok (c : Nat → Nat) : Prop := ∀ j, 31 ≤ c j ∧ c j ≤ 2017
theorem sq_ln_ok {c : Nat → Nat} {a b : Nat} (h : sq_cok c) : sq_cok (sq_ln c a b) := by
  intro j
  unfold sq_ln
  split
  · exact sq_cl_ok (h a)
  · exact h j
/-- chances, width, low end (as one great number), shifts so far -/
abbrev sq_S : Type := (Nat → Nat) × Nat × Nat × Nat
def sq_nm (c : Nat → Nat) (R N s : Nat) : sq_S := if R < 16777216 then (c, R * 256, N * 256, s + 1) else (c, R, N, s)
def sq_step (e : sq_S) (x : Nat × Nat) : sq_S :=
  sq_nm (sq_ln e.1 x.1 x.2) (if x.2 = 0 then e.2.1 / 2048 * e.1 x.1 else e.2.1 - e.2.1 / 2048 * e.1 x.1)
    (if x.2 = 0 then e.2.2.1 else e.2.2.1 + e.2.1 / 2048 * e.1 x.1) e.2.2.2
theorem sq_step_0 (c : Nat → Nat) (R N s a : Nat) : sq_step (c, R, N, s) (a, 0) = sq_nm (sq_ln c a 0) (R / 2048 * c a) N s := rfl
theorem sq_step_1 (c : Nat → Nat) (R N s a : Nat) : sq_step (c, R, N, s) (a, 1) = sq_nm (sq_ln c a 1) (R - R / 2048 * c a) (N + R / 2048 * c a) s := rfl
def sq_run (e : sq_S) (D : List (Nat × Nat)) : sq_S := D.foldl sq_step e
theorem sq_run_cons (e : sq_S) (x : Nat × Nat) (D : List (Nat × Nat)) : sq_run e (x :: D) = sq_run (sq_step e x) D := rfl
theorem sq_run_nil (e : sq_S) : sq_run e [] = e := rfl
theorem sq_run_app (e : sq_S) (D F : List (Nat × Nat)) : sq_run e (D ++ F) = sq_run (sq_run e D) F := List.foldl_append
def sq_e0 : sq_S := (fun _ => 1024, 4294967295, 0, 0)
/-- e stands behind d decisions -/
def sq_ok (e : sq_S) (d : Nat) : Prop :=
  sq_cok e.1 ∧ 16777216 ≤ e.2.1 ∧ e.2.1 < 4294967296 ∧ 256 ^ e.2.2.2 * 4294967295 ≤ e.2.1 * 70 ^ d
theorem sq_ok_0 : sq_ok sq_e0 0 := ⟨fun _ => by show 31 ≤ 1024 ∧ 1024 ≤ 2017; omega, by decide, by decide, by decide⟩
/-- the part of the width that goes to a 0 -/
theorem sq_bd {R v : Nat} (hv : 31 ≤ v ∧ v ≤ 2017) : 31 * (R / 2048) ≤ R / 2048 * v ∧ R / 2048 * v ≤ 2017 * (R / 2048) := by
  refine ⟨?_, ?_⟩
  · rw [Nat.mul_comm 31]; exact Nat.mul_le_mul_left _ hv.1
  · rw [Nat.mul_comm 2017]; exact Nat.mul_le_mul_left _ hv.2
theorem sq_nm_ok {c : Nat → Nat} {R R1 N s d : Nat} (hc : sq_cok c) (h1 : 253952 ≤ R1) (h2 : R1 < 4294967296) (h3 : R ≤ 70 * R1)
    (h : 256 ^ s * 4294967295 ≤ R * 70 ^ d) : sq_ok (sq_nm c R1 N s) (d + 1) := by
  have k : 256 ^ s * 4294967295 ≤ R1 * 70 ^ (d + 1) := by
    refine Nat.le_trans h ?_
    rw [Nat.pow_succ, Nat.mul_comm (70 ^ d), ← Nat.mul_assoc, Nat.mul_comm R1]
    exact Nat.mul_le_mul_right _ h3
  unfold sq_nm
  by_cases z : R1 < 16777216
  · rw [if_pos z]
    refine ⟨hc, ?_, ?_, ?_⟩
    · show 16777216 ≤ R1 * 256; omega
    · show R1 * 256 < 4294967296; omega
    · show 256 ^ (s + 1) * 4294967295 ≤ R1 * 256 * 70 ^ (d + 1)
      rw [Nat.pow_succ 256, Nat.mul_right_comm, Nat.mul_right_comm R1]
      exact Nat.mul_le_mul_right _ k
  · rw [if_neg z]
    refine ⟨hc, ?_, h2, k⟩
    show 16777216 ≤ R1; omega
theorem sq_ok_step {e : sq_S} {d : Nat} (h : sq_ok e d) (x : Nat × Nat) : sq_ok (sq_step e x) (d + 1) := by
  obtain ⟨c, R, N, s⟩ := e
  obtain ⟨a, b⟩ := x
  obtain ⟨hc, h1, h2, h3⟩ := h
  replace h1 : 16777216 ≤ R := h1
  replace h2 : R < 4294967296 := h2
  replace h3 : 256 ^ s * 4294967295 ≤ R * 70 ^ d := h3
  have hb := sq_bd (R := R) (hc a)
  show sq_ok (sq_nm (sq_ln c a b) (if b = 0 then R / 2048 * c a else R - R / 2048 * c a) (if b = 0 then N else N + R / 2048 * c a) s) (d + 1)
  generalize R / 2048 * c a = m at hb ⊢
  by_cases z : b = 0
  · rw [if_pos z, if_pos z]
    exact sq_nm_ok (sq_ln_ok hc) (by omega) (by omega) (by omega) h3
  · rw [if_neg z, if_neg z]
    exact sq_nm_ok (sq_ln_ok hc) (by omega) (by omega) (by omega) h3
theorem sq_ok_run {D : List (Nat × Nat)} : ∀ {e : sq_S} {d : Nat}, sq_ok e d → sq_ok (sq_run e D) (d + D.length) := by
  induction D with
  | nil => intro e d h; exact h
  | cons x D ih =>
    intro e d h
    rw [sq_run_cons, List.length_cons, show d + (D.length + 1) = (d + 1) + D.length from by omega]
    exact ih (sq_ok_step h x)
theorem sq_pw : 70 ^ 438 < 256 ^ 336 := by decide +kernel
/-- at most 438 decisions shift at most 335 times -/
theorem sq_s_le {e : sq_S} {d : Nat} (h : sq_ok e d) (hd : d ≤ 438) : e.2.2.2 ≤ 335 := by
  obtain ⟨c, R, N, s⟩ := e
  obtain ⟨hc, h1, h2, h3⟩ := h
  replace h2 : R < 4294967296 := h2
  replace h3 : 256 ^ s * 4294967295 ≤ R * 70 ^ d := h3
  show s ≤ 335
  rcases Nat.lt_or_ge 335 s with z | z
  · exfalso
    have a1 : 256 ^ 336 ≤ 256 ^ s := Nat.pow_le_pow_right (by omega) z
    have a2 : 70 ^ d ≤ 70 ^ 438 := Nat.pow_le_pow_right (by omega) hd
    have a3 : R * 70 ^ d ≤ 4294967295 * 70 ^ 438 := Nat.mul_le_mul (by omega) a2
    have a4 : 256 ^ 336 * 4294967295 ≤ 256 ^ s * 4294967295 := Nat.mul_le_mul_right _ a1
    have a5 : 256 ^ 336 * 4294967295 ≤ 70 ^ 438 * 4294967295 := by
      rw [Nat.mul_comm (70 ^ 438)]
      exact Nat.le_trans a4 (Nat.le_trans h3 a3)
    have a6 := Nat.le_of_mul_le_mul_right a5 (by omega)
    exact absurd sq_pw (Nat.not_lt.mpr a6)
  · exact z
/-- the number that the first m bytes write -/
def sq_B (t : Nat → Nat) : Nat → Nat
  | 0 => 0
  | m + 1 => sq_B t m * 256 + t m
theorem sq_B_congr {t t' : Nat → Nat} : ∀ {m : Nat}, (∀ j, j < m → t j = t' j) → sq_B t m = sq_B t' m := by
  intro m
  induction m with
  | zero => intro _; rfl
  | succ m ih =>
    intro h
    show sq_B t m * 256 + t m = sq_B t' m * 256 + t' m
    rw [ih (fun j hj => h j (by omega)), h m (by omega)]
/-- the bytes lie in the coder's part of the line -/
def sq_fit (t : Nat → Nat) (e : sq_S) : Prop :=
  e.2.2.1 ≤ sq_B t (e.2.2.2 + 5) ∧ sq_B t (e.2.2.2 + 5) < e.2.2.1 + e.2.1
theorem sq_fit_nm {t : Nat → Nat} {c : Nat → Nat} {R N s : Nat} (ht : ∀ j, t j < 256) (h : sq_fit t (sq_nm c R N s)) :
    N ≤ sq_B t (s + 5) ∧ sq_B t (s + 5) < N + R := by
  unfold sq_nm at h
  by_cases z : R < 16777216
  · rw [if_pos z] at h
    obtain ⟨a, b⟩ := h
    replace a : N * 256 ≤ sq_B t (s + 5) * 256 + t (s + 5) := a
    replace b : sq_B t (s + 5) * 256 + t (s + 5) < N * 256 + R * 256 := b
    have := ht (s + 5)
    omega
  · rw [if_neg z] at h
    exact h
theorem sq_fit_0 {t : Nat → Nat} {c : Nat → Nat} {R N s a : Nat} (ht : ∀ j, t j < 256) (h : sq_fit t (sq_step (c, R, N, s) (a, 0))) :
    N ≤ sq_B t (s + 5) ∧ sq_B t (s + 5) < N + R / 2048 * c a := by
  rw [sq_step_0] at h
  exact sq_fit_nm ht h
theorem sq_fit_1 {t : Nat → Nat} {c : Nat → Nat} {R N s a : Nat} (ht : ∀ j, t j < 256) (h : sq_fit t (sq_step (c, R, N, s) (a, 1))) :
    N + R / 2048 * c a ≤ sq_B t (s + 5) ∧ sq_B t (s + 5) < N + R / 2048 * c a + (R - R / 2048 * c a) := by
  rw [sq_step_1] at h
  exact sq_fit_nm ht h
theorem sq_fit_back {t : Nat → Nat} {e : sq_S} {x : Nat × Nat} (ht : ∀ j, t j < 256) (hc : sq_cok e.1) (h : sq_fit t (sq_step e x)) : sq_fit t e := by
  obtain ⟨c, R, N, s⟩ := e
  obtain ⟨a, b⟩ := x
  have hb := sq_bd (R := R) (hc a)
  have k := sq_fit_nm ht h
  show N ≤ sq_B t (s + 5) ∧ sq_B t (s + 5) < N + R
  replace k : (if b = 0 then N else N + R / 2048 * c a) ≤ sq_B t (s + 5) ∧ sq_B t (s + 5) < (if b = 0 then N else N + R / 2048 * c a) + (if b = 0 then R / 2048 * c a else R - R / 2048 * c a) := k
  replace hb : 31 * (R / 2048) ≤ R / 2048 * c a ∧ R / 2048 * c a ≤ 2017 * (R / 2048) := hb
  generalize R / 2048 * c a = m at hb k
  by_cases z : b = 0
  · rw [if_pos z, if_pos z] at k; omega
  · rw [if_neg z, if_neg z] at k; omega
theorem sq_nm_cok {c : Nat → Nat} {R N s : Nat} (hc : sq_cok c) : sq_cok (sq_nm c R N s).1 := by
  unfold sq_nm
  by_cases z : R < 16777216
  · rw [if_pos z]; exact hc
  · rw [if_neg z]; exact hc
theorem sq_step_cok {e : sq_S} {x : Nat × Nat} (hc : sq_cok e.1) : sq_cok (sq_step e x).1 := sq_nm_cok (sq_ln_ok hc)
theorem sq_fit_run {t : Nat → Nat} (ht : ∀ j, t j < 256) {D : List (Nat × Nat)} : ∀ {e : sq_S}, sq_cok e.1 → sq_fit t (sq_run e D) → sq_fit t e := by
  induction D with
  | nil => intro e _ h; exact h
  | cons x D ih =>
    intro e hc h
    exact sq_fit_back ht hc (ih (sq_step_cok hc) h)
/-- the writer's numbers: bytes put out, the held byte H and K bytes of 255 behind it, then L: together N; the width is r -/
def sq_NP (t : Nat → Nat) (N s r L H K W : Nat) : Prop :=
  H < 256 ∧ W + K = s ∧ N + 4294967296 = (sq_B t W * 256 + H + 1) * 256 ^ K * 4294967296 + L ∧
  L + r ≤ 8589934592 ∧ (H = 255 → L + r ≤ 4294967296) ∧ 0 < r
theorem sq_NP_less {t : Nat → Nat} {N s r r' L H K W : Nat} (h : sq_NP t N s r L H K W) (h0 : 0 < r') (hr : r' ≤ r) : sq_NP t N s r' L H K W := by
  obtain ⟨a, b, c, d, e, f⟩ := h
  exact ⟨a, b, c, by omega, fun z => by have := e z; omega, h0⟩
theorem sq_NP_up {t : Nat → Nat} {N s r L H K W m : Nat} (h : sq_NP t N s r L H K W) (hm : m < r) : sq_NP t (N + m) s (r - m) (L + m) H K W := by
  obtain ⟨a, b, c, d, e, f⟩ := h
  exact ⟨a, b, by omega, by omega, fun z => by have := e z; omega, by omega⟩
theorem sq_NP_congr {t t' : Nat → Nat} {N s r L H K W : Nat} (h : sq_NP t N s r L H K W) (ht : ∀ j, j < W → t j = t' j) : sq_NP t' N s r L H K W := by
  obtain ⟨a, b, c, d⟩ := h
  rw [sq_B_congr ht] at c
  exact ⟨a, b, c, d⟩
/-- a shift that holds one more byte of 255 back -/
theorem sq_NP_hold {t : Nat → Nat} {N s r L H K W : Nat} (h : sq_NP t N s r L H K W) (hr : r ≤ 16777216) (h1 : 4278190080 ≤ L) (h2 : L ≤ 4294967295) :
    sq_NP t (N * 256) (s + 1) (r * 256) (L % 16777216 * 256) H (K + 1) W := by
  obtain ⟨a, b, c, d, e, f⟩ := h
  refine ⟨a, by omega, ?_, by omega, fun z => by have := e z; omega, by omega⟩
  rw [Nat.pow_succ, ← Nat.mul_assoc]
  generalize (sq_B t W * 256 + H + 1) * 256 ^ K = q at c ⊢
  omega
/-- a shift that puts the held bytes out; B is their number with the carry -/
theorem sq_NP_out {t t' : Nat → Nat} {N s r L H K W : Nat} (h : sq_NP t N s r L H K W) (hr : r ≤ 16777216) (h1 : L < 4278190080 ∨ 4294967296 ≤ L)
    (hB : sq_B t' (W + 1 + K) + 1 = (sq_B t W * 256 + H + 1) * 256 ^ K + L / 4294967296) :
    sq_NP t' (N * 256) (s + 1) (r * 256) (L % 16777216 * 256) (L / 16777216 % 256) 0 (W + 1 + K) := by
  obtain ⟨a, b, c, d, e, f⟩ := h
  refine ⟨by omega, by omega, ?_, by omega, fun z => by omega, by omega⟩
  rw [Nat.pow_zero, Nat.mul_one]
  generalize (sq_B t W * 256 + H + 1) * 256 ^ K = q at c hB
  generalize sq_B t' (W + 1 + K) = p at hB ⊢
  omega
/-- a carry finds a held byte below 255 -/
theorem sq_NP_H {t : Nat → Nat} {N s r L H K W : Nat} (h : sq_NP t N s r L H K W) : H + L / 4294967296 < 256 ∧ L / 4294967296 ≤ 1 := by
  obtain ⟨a, b, c, d, e, f⟩ := h
  by_cases z : H = 255
  · have := e z; omega
  · omega
/-- one more byte of 255 (or 0, with the carry) -/
theorem sq_B_next {t : Nat → Nat} {m q g : Nat} (hg : g ≤ 1) (h : sq_B t m + 1 = q + g) (ht : t m = (255 + g) % 256) : sq_B t (m + 1) + 1 = q * 256 + g := by
  show sq_B t m * 256 + t m + 1 = q * 256 + g
  omega
theorem sq_B_first {t : Nat → Nat} {m H g : Nat} (ht : t m = H + g) : sq_B t (m + 1) + 1 = (sq_B t m * 256 + H + 1) + g := by
  show sq_B t m * 256 + t m + 1 = _
  omega
/-- behind the last shifts the bytes are N itself -/
theorem sq_NP_end {t : Nat → Nat} {N s r W : Nat} (h : sq_NP t (N * 256 * 256 * 256 * 256 * 256) (s + 5) r 0 0 0 W) : W = s + 5 ∧ sq_B t (s + 5) = N := by
  obtain ⟨a, b, c, d, e, f⟩ := h
  have z : W = s + 5 := by omega
  subst z
  rw [Nat.pow_zero, Nat.mul_one] at c
  exact ⟨rfl, by omega⟩
/-- a tree of k bits from node on -/
def sq_tree (a v : Nat) : Nat → Nat → List (Nat × Nat)
  | 0, _ => []
  | k + 1, node => (a + node, v / 2 ^ k % 2) :: sq_tree a v k (2 * node + v / 2 ^ k % 2)
theorem sq_tree_len (a v : Nat) : ∀ k node : Nat, (sq_tree a v k node).length = k := by
  intro k
  induction k with
  | zero => intro _; rfl
  | succ k ih => intro node; show (sq_tree a v k _).length + 1 = k + 1; rw [ih]
/-- the node behind k bits -/
theorem sq_node (v k node : Nat) : (2 * node + v / 2 ^ k % 2) * 2 ^ k + v % 2 ^ k = node * 2 ^ (k + 1) + v % 2 ^ (k + 1) := by
  rw [Nat.mod_pow_succ, Nat.pow_succ, Nat.add_mul, Nat.mul_comm (2 ^ k) 2, ← Nat.mul_assoc, Nat.mul_comm node 2, Nat.mul_comm (2 ^ k) (v / 2 ^ k % 2)]
  omega
/-- tokens: (n, d) with n below 2 is a literal, else a copy of n from d back -/
def sq_toks (v : Nat → Nat) : List (Nat × Nat) → Nat → Nat → List (Nat × Nat)
  | [], _, _ => []
  | (n, d) :: T, bf, i =>
    if n < 2 then (bf, 0) :: (sq_tree 66 (v i) 8 1 ++ sq_toks v T 0 (i + 1))
    else (bf, 1) :: (sq_tree 322 (n - 2) 3 1 ++ (sq_tree 330 (d - 1) 6 1 ++ sq_toks v T 1 (i + n)))
def sq_cp (v : Nat → Nat) (len i n d : Nat) : Prop := n ≤ 9 ∧ 1 ≤ d ∧ d ≤ i ∧ i + n ≤ len ∧ ∀ j, j < n → v (i + j) = v (i + j - d)
def sq_tok (v : Nat → Nat) (len : Nat) : List (Nat × Nat) → Nat → Prop
  | [], i => i = len
  | (n, d) :: T, i => (n < 2 ∧ i < len ∧ sq_tok v len T (i + 1)) ∨ (2 ≤ n ∧ sq_cp v len i n d ∧ sq_tok v len T (i + n))
/-- the block: these bytes hold the first len numbers of v -/
def sq_blk (t : Nat → Nat) (v : Nat → Nat) (len : Nat) : Prop :=
  len ≤ 48 ∧ (∀ i, i < len → v i < 256) ∧ ∃ T, sq_tok v len T 0 ∧ (sq_run sq_e0 (sq_tree 2 len 6 1 ++ sq_toks v T 0 0)).2.2.2 ≤ 340 ∧
    sq_fit t (sq_run sq_e0 (sq_tree 2 len 6 1 ++ sq_toks v T 0 0))
theorem sq_blk_congr {t t' v : Nat → Nat} {len : Nat} (h : sq_blk t v len) (ht : ∀ j, j < 352 → t j = t' j) : sq_blk t' v len := by
  obtain ⟨a, b, T, c, d, e⟩ := h
  refine ⟨a, b, T, c, d, ?_⟩
  unfold sq_fit at e ⊢
  rw [sq_B_congr (t := t) (t' := t') (fun j hj => ht j (by omega))] at e
  exact e
end
section
/-! ints and longs as the coder uses them -/
theorem sq_l0 {v : Nat} (h : v ≤ 2048) : nI v + ((2048 - nI v) >>> ((5 : Int32) &&& 31)) = nI (v + (2048 - v) / 32) := by
  have e : (2048 : Int32) - nI v = nI (2048 - v) := pk_sub (a := 2048) h
  have f : nI (2048 - v) >>> ((5 : Int32) &&& 31) = nI ((2048 - v) / 32) := pk_shrN (by omega) _ 5 (by decide)
  rw [e, f, nI_add]
theorem sq_l1 {v : Nat} (h : v ≤ 2048) : nI v - (nI v >>> ((5 : Int32) &&& 31)) = nI (v - v / 32) := by
  have f : nI v >>> ((5 : Int32) &&& 31) = nI (v / 32) := pk_shrN (by omega) _ 5 (by decide)
  rw [f, pk_sub (by omega)]
theorem sq_lowsh {L : Nat} (h : L < 2 ^ 62) : (lN L &&& 16777215) <<< ((8 : Int32).toInt64 &&& 63) = lN (L % 16777216 * 256) := by
  have e : lN L &&& 16777215 = lN (L % 16777216) := g_mask (a := L) (s := 24) (p := 16777216) (by decide) (by decide) (by omega)
  rw [e]
  exact wb_shl (k := 8) _ (by decide)
theorem sq_rgsh (R : Nat) : lN R <<< ((8 : Int32).toInt64 &&& 63) = lN (R * 256) := wb_shl (k := 8) _ (by decide)
theorem sq_hdb {L : Nat} (h : L < 8589934592) : (((lN L).toUInt64 >>> ((24 : Int32).toInt64.toUInt64 &&& Int64.toUInt64 63)).toInt64).toInt32 &&& 255 = nI (L / 16777216 % 256) := by
  have e : ((lN L).toUInt64 >>> ((24 : Int32).toInt64.toUInt64 &&& Int64.toUInt64 63)).toInt64 = lN (L / 16777216) := wb_shr (k := 24) (by omega) (by decide)
  rw [e, lN_i]
  exact pk_andN (by omega) 8 (by decide)
theorem sq_cry {L : Nat} (h : L < 2 ^ 62) : ((lN L).toUInt64 >>> ((32 : Int32).toInt64.toUInt64 &&& Int64.toUInt64 63)).toInt64.toInt32 = nI (L / 4294967296) := by
  have e : ((lN L).toUInt64 >>> ((32 : Int32).toInt64.toUInt64 &&& Int64.toUInt64 63)).toInt64 = lN (L / 4294967296) := wb_shr (k := 32) (by omega) (by decide)
  rw [e, lN_i]
theorem sq_bnd {R v : Nat} (h : R < 4294967296) (hv : v ≤ 2017) : ((lN R).toUInt64 >>> ((11 : Int32).toInt64.toUInt64 &&& Int64.toUInt64 63)).toInt64 * (nI v).toInt64 = lN (R / 2048 * v) := by
  have e : ((lN R).toUInt64 >>> ((11 : Int32).toInt64.toUInt64 &&& Int64.toUInt64 63)).toInt64 = lN (R / 2048) := wb_shr (k := 11) (by omega) (by decide)
  rw [e, nI_l (by omega), lN_mul]
theorem sq_bit {v k : Nat} (hv : v < 2 ^ 32) (hk : k < 32) : ((nI v).toUInt32 >>> ((nI k).toUInt32 &&& Int32.toUInt32 31)).toInt32 &&& 1 = nI (v / 2 ^ k % 2) := by
  rw [pk_ushrN hv _ k (s_u k hk)]
  exact pk_andN (Nat.lt_of_le_of_lt (Nat.div_le_self _ _) hv) 1 (by decide)
def sq_byt (b : Nat) (q : Nat → Int32) : Nat → Nat := fun j => (q (b + j) &&& 255).toNatClampNeg
theorem sq_byt_lt (b : Nat) (q : Nat → Int32) (j : Nat) : sq_byt b q j < 256 := by
  unfold sq_byt
  obtain ⟨m, hm, e⟩ := pk_andE (q (b + j)) (m := 255) 8 (by decide)
  rw [e, nI_clamp (by omega)]; exact hm
theorem sq_byt_eq (b : Nat) (q : Nat → Int32) (j : Nat) : q (b + j) &&& 255 = nI (sq_byt b q j) := by
  unfold sq_byt
  obtain ⟨m, hm, e⟩ := pk_andE (q (b + j)) (m := 255) 8 (by decide)
  rw [e, nI_clamp (by omega)]
/-! the writer's small methods -/
section
variable {dl pl fi co hd hc ba wr ra ml md : Int32} {low rg cd : Int64} {dr pg sq ch : Nat → Int32}
theorem sq_x_learn {post : SX → Prop} {c : Nat → Nat} {a b : Nat} (ha : a < 394) (hch : ∀ j, j < 394 → ch j = nI (c j)) (hv : 31 ≤ c a ∧ c a ≤ 2017) (hb : b < 2)
    (hp : ∀ ch' : Nat → Int32, (∀ j, j < 394 → ch' j = nI (sq_ln c a b j)) → post (dl, pl, fi, co, low, rg, hd, hc, ba, wr, cd, ra, ml, md, dr, pg, sq, ch')) : wpX_learn post (dl, pl, fi, co, low, rg, hd, hc, ba, wr, cd, ra, ml, md, dr, pg, sq, ch) (nI a) (nI b) := by
  have hi : vp_in (nI a) 394 := vp_in_nI ha (by decide)
  have hcl : (nI a).toNatClampNeg = a := nI_clamp (by omega)
  have key : ∀ x : Int32, x = nI (sq_cl (c a) b) → ∀ j, j < 394 → upd ch a x j = nI (sq_ln c a b j) := by
    intro x ex j hj
    unfold sq_ln
    by_cases h : j = a
    · rw [h, pk_us, if_pos rfl, ex]
    · rw [pk_un h, if_neg h, hch j hj]
  unfold wpX_learn; dsimp only
  rw [hcl, hch a ha]
  rcases (by omega : b = 0 ∨ b = 1) with rfl | rfl
  · refine br_t (show nI 0 = 0 from rfl) ⟨hi, hi, hi, ?_⟩
    intro x ex
    rw [ex]
    exact hp _ (key _ (sq_l0 (by omega)))
  · refine br_f (show ¬ nI 1 = 0 from by decide) ⟨hi, hi, hi, ?_⟩
    intro x ex
    rw [ex]
    exact hp _ (key _ (sq_l1 (by omega)))
theorem sq_x_put {post : SX → Prop} {b W v : Nat} (hb : b ≤ 1056) (hW : W < 352) (hv : v ≤ 256)
    (hp : ∀ sq' : Nat → Int32, (∀ j, j ≠ b + W → sq' j = sq j) → sq_byt b sq' W = v % 256 → post (dl, pl, fi, co, low, rg, hd, hc, nI b, nI (W + 1), cd, ra, ml, md, dr, pg, sq', ch)) :
    wpX_putByte post (dl, pl, fi, co, low, rg, hd, hc, nI b, nI W, cd, ra, ml, md, dr, pg, sq, ch) (nI v) := by
  unfold wpX_putByte; dsimp only
  refine br_f (nI_ge (b := 352) hW (by decide)) ⟨?_, ?_⟩
  · rw [nI_add]; exact vp_in_nI (by omega) (by decide)
  · intro s es w ew
    rw [es, ew, nI_add, nI_clamp (by omega), nI_1]
    refine hp _ (fun j hj => pk_un hj) ?_
    unfold sq_byt
    have e : nI v &&& 255 = nI (v % 256) := pk_andN (by omega) 8 (by decide)
    rw [pk_us, pk_vb, bp_b, e, nI_clamp (by omega)]
theorem sq_x_91 {post : SX → Prop} {L K : Nat} (hL : L < 2 ^ 62) (hp : post (dl, pl, fi, co, lN (L % 16777216 * 256), rg, hd, nI (K + 1), ba, wr, cd, ra, ml, md, dr, pg, sq, ch)) :
    wX_shiftLow_91 post dl pl fi co (lN L) rg hd (nI K) ba wr cd ra ml md dr pg sq ch := nm_r (nI_1 K) (nm_r (sq_lowsh hL) hp)
theorem sq_x_70 {post : SX → Prop} {L : Nat} (hL : L < 8589934592) (hp : post (dl, pl, fi, co, lN (L % 16777216 * 256), rg, nI (L / 16777216 % 256), nI 1, ba, wr, cd, ra, ml, md, dr, pg, sq, ch)) :
    wX_shiftLow_70 post dl pl fi co (lN L) rg hd hc ba wr cd ra ml md dr pg sq ch := nm_r (sq_hdb hL) (sq_x_91 (K := 0) (by omega) hp)
theorem sq_x_38 {post : SX → Prop} {b W K q g : Nat} {s0 : Nat → Int32} (hb : b ≤ 1056) (hg : g ≤ 1) (hK : W + K + 1 ≤ 352)
    (hp : ∀ sq' : Nat → Int32, (∀ j, (j < b + W ∨ b + 352 ≤ j) → sq' j = s0 j) → sq_B (sq_byt b sq') (W + 1 + K) + 1 = q * 256 ^ K + g →
      wX_shiftLow_70 post dl pl fi co low rg hd (nI (K + 1)) (nI b) (nI (W + 1 + K)) cd ra ml md dr pg sq' ch) :
    ∀ (m k : Nat) (sq : Nat → Int32), m + k = K → (∀ j, (j < b + W ∨ b + 352 ≤ j) → sq j = s0 j) → sq_B (sq_byt b sq) (W + 1 + k) + 1 = q * 256 ^ k + g →
      ∀ n, m < n → wX_shiftLow_38 post (nI g) n 255 (nI (k + 1)) dl pl fi co low rg hd (nI (K + 1)) (nI b) (nI (W + 1 + k)) cd ra ml md dr pg sq ch := by
  intro m
  induction m with
  | zero =>
    intro k sq hk hf hB n hn
    obtain ⟨n, rfl⟩ : ∃ n', n = n' + 1 := ⟨n - 1, by omega⟩
    obtain rfl : k = K := by omega
    exact br_t (nI_le (Nat.le_refl _) (by omega)) (hp sq hf hB)
  | succ m ih =>
    intro k sq hk hf hB n hn
    obtain ⟨n, rfl⟩ : ∃ n', n = n' + 1 := ⟨n - 1, by omega⟩
    refine br_f (nI_ge (by omega) (by omega)) (br_f (nI_ge (b := 352) (by omega) (by decide)) ?_)
    have e : (255 : Int32) + nI g = nI (255 + g) := nI_add 255 g
    rw [e]
    refine sq_x_put hb (by omega) (by omega) ?_
    intro sq' h1 h2
    dsimp only
    intro x ex
    rw [ex, nI_1]
    refine ih (k + 1) sq' (by omega) (fun j hj => by rw [h1 j (by omega)]; exact hf j hj) ?_ n (by omega)
    rw [Nat.pow_succ, ← Nat.mul_assoc]
    refine sq_B_next (m := W + 1 + k) hg ?_ h2
    rw [sq_B_congr (t := sq_byt b sq') (t' := sq_byt b sq) (m := W + 1 + k) (fun j hj => by unfold sq_byt; rw [h1 _ (by omega)])]
    exact hB
theorem sq_x_22 {post : SX → Prop} {b N s r L H K W : Nat} {s0 : Nat → Int32} (hb : b ≤ 1056) (hs : s < 351) (hr : r ≤ 16777216)
    (h : sq_NP (sq_byt b sq) N s r L H K W) (hf : ∀ j, (j < b ∨ b + 352 ≤ j) → sq j = s0 j) (h1 : L < 4278190080 ∨ 4294967296 ≤ L)
    (hp : ∀ (W' : Nat) (sq' : Nat → Int32), sq_NP (sq_byt b sq') (N * 256) (s + 1) (r * 256) (L % 16777216 * 256) (L / 16777216 % 256) 0 W' →
      (∀ j, (j < b ∨ b + 352 ≤ j) → sq' j = s0 j) →
      post (dl, pl, fi, co, lN (L % 16777216 * 256), rg, nI (L / 16777216 % 256), nI 1, nI b, nI W', cd, ra, ml, md, dr, pg, sq', ch)) :
    wX_shiftLow_22 post dl pl fi co (lN L) rg (nI H) (nI (K + 1)) (nI b) (nI W) cd ra ml md dr pg sq ch := by
  have hh := h
  obtain ⟨a1, a2, a3, a4, a5, a6⟩ := hh
  obtain ⟨g1, g2⟩ := sq_NP_H h
  refine nm_r (sq_cry (by omega)) ⟨K + 2, ?_⟩
  have key := @sq_x_38 dl pl fi co (nI H) ra ml md (lN L) rg cd dr pg ch post b W K (sq_B (sq_byt b sq) W * 256 + H + 1) (L / 4294967296) sq hb g2 (by omega)
    (fun sq' c1 c2 => sq_x_70 (by omega) (hp _ sq' (sq_NP_out h hr h1 c2) (fun j hj => by rw [c1 j (by omega)]; exact hf j hj)))
  refine br_f (nI_nle (by omega) (by omega)) (br_f (show ¬ (352 : Int32) ≤ 0 from by decide) ?_)
  rw [nI_add]
  refine sq_x_put hb (by omega) (by omega) ?_
  intro sq' c1 c2
  dsimp only
  intro x ex
  rw [ex, show (0 : Int32) + 1 = nI (0 + 1) from by decide]
  refine key K 0 sq' (by omega) (fun j hj => c1 j (by omega)) ?_ (K + 1) (by omega)
  rw [Nat.pow_zero, Nat.mul_one]
  have c3 : sq_B (sq_byt b sq') W = sq_B (sq_byt b sq) W := sq_B_congr (fun j hj => by unfold sq_byt; rw [c1 _ (by omega)])
  rw [← c3]
  exact sq_B_first (by rw [c2]; omega)
theorem sq_x_shift {post : SX → Prop} {b N s r L H K W : Nat} {s0 : Nat → Int32} (hb : b ≤ 1056) (hs : s < 351) (hr : r ≤ 16777216)
    (h : sq_NP (sq_byt b sq) N s r L H K W) (hf : ∀ j, (j < b ∨ b + 352 ≤ j) → sq j = s0 j)
    (hp : ∀ (H' K' W' : Nat) (sq' : Nat → Int32), sq_NP (sq_byt b sq') (N * 256) (s + 1) (r * 256) (L % 16777216 * 256) H' K' W' →
      (∀ j, (j < b ∨ b + 352 ≤ j) → sq' j = s0 j) → (L < 4278190080 → K' = 0 ∧ H' = L / 16777216) →
      post (dl, pl, fi, co, lN (L % 16777216 * 256), rg, nI H', nI (K' + 1), nI b, nI W', cd, ra, ml, md, dr, pg, sq', ch)) :
    wpX_shiftLow post (dl, pl, fi, co, lN L, rg, nI H, nI (K + 1), nI b, nI W, cd, ra, ml, md, dr, pg, sq, ch) := by
  have hL : L < 8589934592 := by obtain ⟨a1, a2, a3, a4, a5, a6⟩ := h; omega
  have o : (L < 4278190080 ∨ 4294967296 ≤ L) → wX_shiftLow_22 post dl pl fi co (lN L) rg (nI H) (nI (K + 1)) (nI b) (nI W) cd ra ml md dr pg sq ch := fun h1 =>
    sq_x_22 hb hs hr h hf h1 (fun W' sq' c1 c2 => hp _ 0 W' sq' c1 c2 (fun c3 => ⟨rfl, by omega⟩))
  unfold wpX_shiftLow; dsimp only
  by_cases z : L < 4278190080
  · exact br_t ((pk_lLT (b := 4278190080) (by omega) (by decide)).mpr z) (o (Or.inl z))
  · refine br_f (fun c => z ((pk_lLT (b := 4278190080) (by omega) (by decide)).mp c)) ?_
    by_cases y : L ≤ 4294967295
    · exact br_t ((pk_lLE (b := 4294967295) (by omega) (by decide)).mpr y) (sq_x_91 (by omega) (hp H (K + 1) W sq (sq_NP_hold h hr (by omega) y) hf (fun c => absurd c z)))
    · exact br_f (fun c => y ((pk_lLE (b := 4294967295) (by omega) (by decide)).mp c)) (o (Or.inr (by omega)))
/-- the writer's fields stand for e: s0 is the queue's store at the start, b the block's place -/
def sq_EI (s0 : Nat → Int32) (b : Nat) (e : sq_S) (low rg : Int64) (hd hc wr : Int32) (sq ch : Nat → Int32) : Prop :=
  ∃ L H K W : Nat, low = lN L ∧ rg = lN e.2.1 ∧ hd = nI H ∧ hc = nI (K + 1) ∧ wr = nI W ∧ sq_NP (sq_byt b sq) e.2.2.1 e.2.2.2 e.2.1 L H K W ∧
    (∀ j, (j < b ∨ b + 352 ≤ j) → sq j = s0 j) ∧ ∀ j, j < 394 → ch j = nI (e.1 j)
theorem sq_x_wb48 {post : SX → Prop} {b N s R L H K W a v : Nat} {c : Nat → Nat} {s0 : Nat → Int32} (hb : b ≤ 1056) (hs : s < 351) (ha : a < 394) (hv : v < 2)
    (hR : R < 4294967296) (hcok : sq_cok c) (h : sq_NP (sq_byt b sq) N s R L H K W) (hf : ∀ j, (j < b ∨ b + 352 ≤ j) → sq j = s0 j) (hch : ∀ j, j < 394 → ch j = nI (c j))
    (hp : ∀ (low' rg' : Int64) (hd' hc' wr' : Int32) (sq' ch' : Nat → Int32), sq_EI s0 b (sq_nm (sq_ln c a v) R N s) low' rg' hd' hc' wr' sq' ch' →
      post (dl, pl, fi, co, low', rg', hd', hc', nI b, wr', cd, ra, ml, md, dr, pg, sq', ch')) :
    wX_writeBit_48 post (nI a) (nI v) dl pl fi co (lN L) (lN R) (nI H) (nI (K + 1)) (nI b) (nI W) cd ra ml md dr pg sq ch := by
  unfold wX_writeBit_48
  refine sq_x_learn ha hch (hcok a) hv ?_
  intro ch' h'
  dsimp only
  by_cases z : R < 16777216
  · refine br_f (fun g => absurd ((pk_lLE (a := 16777216) (by decide) (by omega)).mp g) (by omega)) (nm_r (sq_rgsh R) ?_)
    refine sq_x_shift hb hs (by omega) h hf ?_
    intro H' K' W' sq' c1 c2 _
    dsimp only
    refine hp _ _ _ _ _ _ _ ?_
    unfold sq_nm
    rw [if_pos z]
    exact ⟨_, _, _, _, rfl, rfl, rfl, rfl, rfl, c1, c2, h'⟩
  · refine br_t ((pk_lLE (a := 16777216) (by decide) (by omega)).mpr (by omega)) (hp _ _ _ _ _ _ _ ?_)
    unfold sq_nm
    rw [if_neg z]
    exact ⟨_, _, _, _, rfl, rfl, rfl, rfl, rfl, h, hf, h'⟩
theorem sq_x_bit {post : SX → Prop} {b a v d : Nat} {e : sq_S} {s0 : Nat → Int32} (hb : b ≤ 1056) (ha : a < 394) (hv : v < 2) (ho : sq_ok e d) (hd438 : d ≤ 438)
    (h : sq_EI s0 b e low rg hd hc wr sq ch)
    (hp : ∀ (low' rg' : Int64) (hd' hc' wr' : Int32) (sq' ch' : Nat → Int32), sq_EI s0 b (sq_step e (a, v)) low' rg' hd' hc' wr' sq' ch' →
      post (dl, pl, fi, co, low', rg', hd', hc', nI b, wr', cd, ra, ml, md, dr, pg, sq', ch')) :
    wpX_writeBit post (dl, pl, fi, co, low, rg, hd, hc, nI b, wr, cd, ra, ml, md, dr, pg, sq, ch) (nI a) (nI v) := by
  have hs := sq_s_le ho hd438
  obtain ⟨c, R, N, s⟩ := e
  obtain ⟨L, H, K, W, e1, e2, e3, e4, e5, hN, hf, hch⟩ := h
  obtain ⟨o1, o2, o3, o4⟩ := ho
  dsimp only at *
  have hbd := sq_bd (R := R) (o1 a)
  rw [e1, e2, e3, e4, e5]
  unfold wpX_writeBit; dsimp only
  refine ⟨vp_in_nI ha (by decide), ?_⟩
  rw [nI_clamp (by omega), hch a ha, sq_bnd o3 (o1 a).2]
  intro x ex
  rw [ex]
  rcases (by omega : v = 0 ∨ v = 1) with rfl | rfl
  · rw [sq_step_0] at hp
    refine br_t (show nI 0 = 0 from rfl) ?_
    exact sq_x_wb48 (N := N) (s := s) hb (by omega) ha hv (by omega) o1 (sq_NP_less hN (by omega) (by omega)) hf hch hp
  · rw [sq_step_1] at hp
    refine br_f (show ¬ nI 1 = 0 from by decide) ?_
    refine nm_r (lN_add _ _) (nm_r (lN_sub (by omega)) ?_)
    exact sq_x_wb48 (N := N + R / 2048 * c a) (s := s) hb (by omega) ha hv (by omega) o1 (sq_NP_up hN (by omega)) hf hch hp
end
end
section
/-! squeezing: trees, matches, tokens -/
section
variable {dl pl fi co hd hc ba wr ra ml md : Int32} {low rg cd : Int64} {dr pg sq ch : Nat → Int32}
theorem sq_x_tree8 {post : SX → Prop} {s0 : Nat → Int32} {b a v M : Nat} (hb : b ≤ 1056) (hM : a + M ≤ 394) (hv : v < 2 ^ 32) :
    ∀ (k node d n : Nat) (e : sq_S) (low rg : Int64) (hd hc wr : Int32) (sq ch : Nat → Int32), k ≤ 8 → (node + 1) * 2 ^ k ≤ 2 * M → sq_ok e d → d + k ≤ 438 →
      sq_EI s0 b e low rg hd hc wr sq ch →
      (∀ (low' rg' : Int64) (hd' hc' wr' : Int32) (sq' ch' : Nat → Int32), sq_EI s0 b (sq_run e (sq_tree a v k node)) low' rg' hd' hc' wr' sq' ch' →
        post (dl, pl, fi, co, low', rg', hd', hc', nI b, wr', cd, ra, ml, md, dr, pg, sq', ch')) →
      k < n → wX_writeTree_8 post (nI a) (nI v) n (nI node) (nI k - 1) dl pl fi co low rg hd hc (nI b) wr cd ra ml md dr pg sq ch := by
  intro k
  induction k with
  | zero =>
    intro node d n e low rg hd hc wr sq ch _ _ _ _ h hp hn
    obtain ⟨n, rfl⟩ : ∃ n', n = n' + 1 := ⟨n - 1, by omega⟩
    exact br_t (show nI 0 - 1 < 0 from by decide) (hp _ _ _ _ _ _ _ h)
  | succ k ih =>
    intro node d n e low rg hd hc wr sq ch hk hM2 ho hdk h hp hn
    obtain ⟨n, rfl⟩ : ∃ n', n = n' + 1 := ⟨n - 1, by omega⟩
    have hpw : 2 ^ (k + 1) = 2 * 2 ^ k := by rw [Nat.pow_succ, Nat.mul_comm]
    have h1 : (node + 1) * 2 ^ k ≤ M := by
      rw [hpw, Nat.mul_left_comm] at hM2
      exact Nat.le_of_mul_le_mul_left hM2 (by omega)
    have hnode : node + 1 ≤ M := Nat.le_trans (Nat.le_mul_of_pos_right _ (Nat.two_pow_pos k)) h1
    have hbit : v / 2 ^ k % 2 < 2 := Nat.mod_lt _ (by omega)
    rw [nI_pred]
    refine br_f (nI_pos (by omega)) (nm_r (sq_bit hv (by omega)) ?_)
    rw [nI_add]
    refine sq_x_bit hb (by omega) hbit ho (by omega) h ?_
    intro low1 rg1 hd1 hc1 wr1 sq1 ch1 h1'
    dsimp only
    intro x ex y ey
    have ex' : x = nI (2 * node + v / 2 ^ k % 2) := by
      rw [ex, ← nI_add, ← pk_mul]
      exact rfl
    have ey' : y = nI k - 1 := by rw [ey, Int32.sub_eq_add_neg]
    rw [ex', ey']
    refine ih _ (d + 1) n _ _ _ _ _ _ _ _ (by omega) ?_ (sq_ok_step ho _) (by omega) h1' ?_ (by omega)
    · refine Nat.le_trans (Nat.mul_le_mul_right (2 ^ k) (show 2 * node + v / 2 ^ k % 2 + 1 ≤ 2 * (node + 1) from by omega)) ?_
      rw [Nat.mul_assoc]
      exact Nat.mul_le_mul_left 2 h1
    · intro low2 rg2 hd2 hc2 wr2 sq2 ch2 h2
      exact hp _ _ _ _ _ _ _ h2
theorem sq_x_tree {post : SX → Prop} {s0 : Nat → Int32} {b d : Nat} {e : sq_S} (a k v : Nat) (hb : b ≤ 1056) (hM : a + 2 ^ k ≤ 394) (hv : v < 2 ^ 32) (hk : k ≤ 8) (ho : sq_ok e d) (hdk : d + k ≤ 438)
    (h : sq_EI s0 b e low rg hd hc wr sq ch)
    (hp : ∀ (low' rg' : Int64) (hd' hc' wr' : Int32) (sq' ch' : Nat → Int32), sq_EI s0 b (sq_run e (sq_tree a v k 1)) low' rg' hd' hc' wr' sq' ch' →
        post (dl, pl, fi, co, low', rg', hd', hc', nI b, wr', cd, ra, ml, md, dr, pg, sq', ch')) :
    wpX_writeTree post (dl, pl, fi, co, low, rg, hd, hc, nI b, wr, cd, ra, ml, md, dr, pg, sq, ch) (nI a) (nI k) (nI v) := by
  unfold wpX_writeTree; dsimp only
  intro x ex
  rw [ex]
  exact ⟨k + 1, sq_x_tree8 (M := 2 ^ k) hb hM hv k 1 d (k + 1) e _ _ _ _ _ _ _ hk (by omega) ho hdk h hp (by omega)⟩
/-- the numbers of an array of bytes -/
def sq_v (f : Nat → Int32) : Nat → Nat := fun j => (f j).toNatClampNeg
theorem sq_x_mat {post : Int32 → Prop} {p d len : Nat} (hlen : len ≤ 48) (hp : p < 48) (h1 : 1 ≤ d) (h2 : d ≤ p)
    (hq : ∀ m, m ≤ 9 → (0 < m → sq_cp (sq_v dr) len p m d) → post (nI m)) :
    ∀ (q k n : Nat), q + k = 9 → (0 < k → p + k ≤ len) → (∀ j, j < k → dr (p + j) = dr (p + j - d)) → q < n →
      wX_matchAt_2 post (nI p) (nI d) (nI len) pl fi co low rg hd hc ba wr cd ra ml md dr pg sq ch n (nI k) := by
  intro q
  induction q with
  | zero =>
    intro k n hk hl he hn
    obtain ⟨n, rfl⟩ : ∃ n', n = n' + 1 := ⟨n - 1, by omega⟩
    refine br_t (nI_le (a := 9) (by omega) (by omega)) (hq k (by omega) (fun z => ⟨by omega, h1, h2, hl z, fun j hj => ?_⟩))
    exact congrArg Int32.toNatClampNeg (he j hj)
  | succ q ih =>
    intro k n hk hl he hn
    obtain ⟨n, rfl⟩ : ∃ n', n = n' + 1 := ⟨n - 1, by omega⟩
    have done : post (nI k) := hq k (by omega) (fun z => ⟨by omega, h1, h2, hl z, fun j hj => congrArg Int32.toNatClampNeg (he j hj)⟩)
    refine br_f (nI_ge (b := 9) (by omega) (by decide)) ?_
    rw [nI_add, pk_sub (by omega)]
    by_cases z : len ≤ p + k
    · exact br_t (nI_le z (by omega)) done
    · refine br_f (nI_ge (by omega) (by omega)) ⟨vp_in_nI (by omega) (by decide), vp_in_nI (by omega) (by decide), ?_⟩
      rw [nI_clamp (by omega), nI_clamp (by omega)]
      by_cases y : dr (p + k) = dr (p + k - d)
      · refine br_t y (nm_r (nI_1 k) (ih (k + 1) n (by omega) (fun _ => by omega) (fun j hj => ?_) (by omega)))
        by_cases w : j = k
        · rw [w]; exact y
        · exact he j (by omega)
      · exact br_f y done
theorem sq_x_find12 {post : SX → Prop} {p len : Nat} (hlen : len ≤ 48) (hp : p < 48)
    (hq : ∀ m g, m ≤ 9 → (0 < m → sq_cp (sq_v dr) len p m g) → post (nI len, pl, fi, co, low, rg, hd, hc, ba, wr, cd, ra, nI m, nI g, dr, pg, sq, ch)) :
    ∀ (q k n m g : Nat), q + k = p + 1 → 1 ≤ k → m ≤ 9 → (0 < m → sq_cp (sq_v dr) len p m g) → q < n →
      wX_findMatch_12 post (nI p) (nI len) pl fi co low rg hd hc ba wr cd ra dr pg sq ch n (nI k) (nI m) (nI g) := by
  intro q
  induction q with
  | zero =>
    intro k n m g hk _ hm hc hn
    obtain ⟨n, rfl⟩ : ∃ n', n = n' + 1 := ⟨n - 1, by omega⟩
    exact br_t (nI_lt (by omega) (by omega)) (hq m g hm hc)
  | succ q ih =>
    intro k n m g hk hk1 hm hcp hn
    obtain ⟨n, rfl⟩ : ∃ n', n = n' + 1 := ⟨n - 1, by omega⟩
    refine br_f (nI_nlt (by omega) (by omega)) (Exists.intro 10 ?_)
    refine sq_x_mat (p := p) (d := k) hlen hp hk1 (by omega) ?_ 9 0 10 rfl (by omega) (fun j hj => absurd hj (by omega)) (by omega)
    intro m' hm' hcp'
    by_cases z : m' ≤ m
    · exact br_t (nI_le z (by omega)) (nm_r (nI_1 k) (ih (k + 1) n m g (by omega) (by omega) hm hcp (by omega)))
    · exact br_f (nI_ge (by omega) (by omega)) (nm_r (nI_1 k) (ih (k + 1) n m' k (by omega) (by omega) hm' hcp' (by omega)))
theorem sq_x_find {post : SX → Prop} {p len : Nat} (hlen : len ≤ 48) (hp : p < 48)
    (hq : ∀ m g, m ≤ 9 → (0 < m → sq_cp (sq_v dr) len p m g) → post (nI len, pl, fi, co, low, rg, hd, hc, ba, wr, cd, ra, nI m, nI g, dr, pg, sq, ch)) :
    wpX_findMatch post (nI len, pl, fi, co, low, rg, hd, hc, ba, wr, cd, ra, ml, md, dr, pg, sq, ch) (nI p) :=
  Exists.intro (p + 1) (sq_x_find12 hlen hp hq p 1 (p + 1) 0 0 (by omega) (by omega) (by omega) (fun z => absurd z (by omega)) (by omega))
/-- one of the last shifts -/
theorem sq_x_155s {post : SX → Prop} {b N s L H K W k n : Nat} {s0 : Nat → Int32} (hk : k < 5) (hb : b ≤ 1056) (hs : s < 351)
    (h : sq_NP (sq_byt b sq) N s 1 L H K W) (hf : ∀ j, (j < b ∨ b + 352 ≤ j) → sq j = s0 j)
    (hp : ∀ (H' K' W' : Nat) (sq' : Nat → Int32), sq_NP (sq_byt b sq') (N * 256) (s + 1) 1 (L % 16777216 * 256) H' K' W' →
      (∀ j, (j < b ∨ b + 352 ≤ j) → sq' j = s0 j) → (L < 4278190080 → K' = 0 ∧ H' = L / 16777216) →
      wX_squeeze_155 post n (nI (k + 1)) dl pl fi co (lN (L % 16777216 * 256)) rg (nI H') (nI (K' + 1)) (nI b) (nI W') cd ra ml md dr pg sq' ch) :
    wX_squeeze_155 post (n + 1) (nI k) dl pl fi co (lN L) rg (nI H) (nI (K + 1)) (nI b) (nI W) cd ra ml md dr pg sq ch := by
  refine br_f (lt5' k hk) ?_
  refine sq_x_shift hb hs (by decide) h hf ?_
  intro H' K' W' sq' c1 c2 c3
  dsimp only
  intro x ex
  rw [ex, nI_1]
  exact hp H' K' W' sq' (sq_NP_less c1 (by omega) (by omega)) c2 c3
theorem sq_x_155 {post : SX → Prop} {b : Nat} {e : sq_S} {s0 : Nat → Int32} (hb : b ≤ 1056) (hs : e.2.2.2 ≤ 340) (h : sq_EI s0 b e low rg hd hc wr sq ch)
    (hp : ∀ (low' : Int64) (hd' hc' wr' : Int32) (sq' : Nat → Int32), sq_fit (sq_byt b sq') e → (∀ j, (j < b ∨ b + 352 ≤ j) → sq' j = s0 j) →
      post (dl, pl, fi, co, low', rg, hd', hc', nI b, wr', cd, ra, ml, md, dr, pg, sq', ch)) :
    wX_squeeze_155 post 6 0 dl pl fi co low rg hd hc (nI b) wr cd ra ml md dr pg sq ch := by
  obtain ⟨c, R, N, s⟩ := e
  obtain ⟨L, H, K, W, e1, e2, e3, e4, e5, hN, hf, hch⟩ := h
  dsimp only at *
  rw [e1, e3, e4, e5]
  have hr : 0 < R := by obtain ⟨a1, a2, a3, a4, a5, a6⟩ := hN; exact a6
  refine sq_x_155s (k := 0) (by omega) hb (by omega) (sq_NP_less hN (by omega) hr) hf ?_
  intro H1 K1 W1 sq1 n1 f1 _
  refine sq_x_155s (k := 1) (by omega) hb (by omega) n1 f1 ?_
  intro H2 K2 W2 sq2 n2 f2 _
  refine sq_x_155s (k := 2) (by omega) hb (by omega) n2 f2 ?_
  intro H3 K3 W3 sq3 n3 f3 _
  refine sq_x_155s (k := 3) (by omega) hb (by omega) n3 f3 ?_
  intro H4 K4 W4 sq4 n4 f4 _
  have z4 : L % 16777216 * 256 % 16777216 * 256 % 16777216 * 256 % 16777216 * 256 = 0 := by omega
  rw [z4] at n4 ⊢
  refine sq_x_155s (k := 4) (by omega) hb (by omega) n4 f4 ?_
  intro H5 K5 W5 sq5 n5 f5 c5
  obtain ⟨k5, h5⟩ := c5 (by omega)
  rw [k5] at n5 ⊢
  rw [show H5 = 0 from by omega] at n5 ⊢
  obtain ⟨w5, b5⟩ := sq_NP_end n5
  refine br_t (nI_le (a := 5) (b := 5) (by omega) (by omega)) (hp _ _ _ _ _ ?_ f5)
  show N ≤ sq_B (sq_byt b sq5) (s + 5) ∧ sq_B (sq_byt b sq5) (s + 5) < N + R
  omega
/-- the tokens from i on -/
theorem sq_x_48 {post : SX → Prop} {s0 : Nat → Int32} {b len : Nat} (hb : b ≤ 1056) (hlen : len ≤ 48) (hv : ∀ j, j < len → dr j = nI (sq_v dr j) ∧ sq_v dr j < 256) :
    ∀ (n q i bf st d : Nat) (e : sq_S) (low rg : Int64) (hd hc wr ml md : Int32) (sq ch : Nat → Int32), q + i = len → st ≤ i → bf < 2 → sq_ok e d → d ≤ 6 + 9 * i →
      sq_EI s0 b e low rg hd hc wr sq ch →
      (∀ (T : List (Nat × Nat)) (low' rg' : Int64) (hd' hc' wr' ml' md' : Int32) (sq' ch' : Nat → Int32), sq_tok (sq_v dr) len T i → (sq_run e (sq_toks (sq_v dr) T bf i)).2.2.2 ≤ 340 →
        sq_fit (sq_byt b sq') (sq_run e (sq_toks (sq_v dr) T bf i)) → (∀ j, (j < b ∨ b + 352 ≤ j) → sq' j = s0 j) →
        post (nI len, pl, fi, co, low', rg', hd', hc', nI b, wr', cd, ra, ml', md', dr, pg, sq', ch')) →
      q < n → wX_squeeze_48 post n (nI bf) (nI i) (nI st) (nI len) pl fi co low rg hd hc (nI b) wr cd ra ml md dr pg sq ch := by
  intro n
  induction n with
  | zero => intro q i bf st d e low rg hd hc wr ml md sq ch _ _ _ _ _ _ _ hn; exact absurd hn (by omega)
  | succ n ih =>
    intro q i bf st d e low rg hd hc wr ml md sq ch hq hst hbf ho hd9 h hp hn
    by_cases z : q = 0
    · have hi : i = len := by omega
      have hs : e.2.2.2 ≤ 340 := Nat.le_trans (sq_s_le ho (by omega)) (by omega)
      have out : ∃ n155 : Nat, wX_squeeze_155 post n155 0 (nI len) pl fi co low rg hd hc (nI b) wr cd ra ml md dr pg sq ch :=
        ⟨6, sq_x_155 hb hs h (fun low' hd' hc' wr' sq' c1 c2 => hp [] _ _ _ _ _ _ _ _ _ hi hs c1 c2)⟩
      exact br_c (fun _ => out) (fun _ => br_t (nI_le (by omega) (by omega)) out)
    · refine br_f (nI_ge (b := 48) (by omega) (by decide)) (br_f (nI_ge (by omega) (by omega)) ?_)
      refine sq_x_find hlen (by omega) ?_
      intro m g hm hcp
      dsimp only
      by_cases y : m < 2
      · refine br_t (nI_lt (b := 2) y (by decide)) ?_
        refine sq_x_bit (v := 0) hb (by omega) (by omega) ho (by omega) h ?_
        intro low1 rg1 hd1 hc1 wr1 sq1 ch1 h1
        dsimp only
        refine ⟨vp_in_nI (by omega) (by decide), ?_⟩
        rw [nI_clamp (by omega), (hv i (by omega)).1]
        have o1 := sq_ok_step ho (bf, 0)
        refine sq_x_tree 66 8 (sq_v dr i) hb (by decide) (Nat.lt_trans (hv i (by omega)).2 (by decide)) (by decide) o1 (by omega) h1 ?_
        intro low2 rg2 hd2 hc2 wr2 sq2 ch2 h2
        dsimp only
        intro x ex w ew
        rw [ex, ew, nI_1, nI_1]
        have o2 := sq_ok_run (D := sq_tree 66 (sq_v dr i) 8 1) o1
        rw [sq_tree_len] at o2
        refine ih (q - 1) (i + 1) 0 (st + 1) (d + 1 + 8) _ _ _ _ _ _ _ _ _ _ (by omega) (by omega) (by omega) o2 (by omega) h2 ?_ (by omega)
        intro T low' rg' hd' hc' wr' ml' md' sq' ch' t1 t0 t2 t3
        have et : sq_toks (sq_v dr) ((0, 0) :: T) bf i = (bf, 0) :: (sq_tree 66 (sq_v dr i) 8 1 ++ sq_toks (sq_v dr) T 0 (i + 1)) := if_pos (by omega)
        refine hp ((0, 0) :: T) _ _ _ _ _ _ _ _ _ (Or.inl ⟨by omega, by omega, t1⟩) ?_ ?_ t3
        · rw [et, sq_run_cons, sq_run_app]; exact t0
        · rw [et, sq_run_cons, sq_run_app]; exact t2
      · obtain ⟨m9, g1, gi, mlen, meq⟩ := hcp (by omega)
        refine br_f (nI_nlt (b := 2) (by omega) (by omega)) ?_
        refine sq_x_bit (v := 1) hb (by omega) (by omega) ho (by omega) h ?_
        intro low1 rg1 hd1 hc1 wr1 sq1 ch1 h1
        dsimp only
        have em : nI m - 2 = nI (m - 2) := pk_sub (b := 2) (by omega)
        rw [em]
        have o1 := sq_ok_step ho (bf, 1)
        refine sq_x_tree 322 3 (m - 2) hb (by decide) (by omega) (by decide) o1 (by omega) h1 ?_
        intro low2 rg2 hd2 hc2 wr2 sq2 ch2 h2
        dsimp only
        have o2 := sq_ok_run (D := sq_tree 322 (m - 2) 3 1) o1
        rw [sq_tree_len] at o2
        have eg : nI g - 1 = nI (g - 1) := pk_sub (b := 1) (by omega)
        rw [eg]
        refine sq_x_tree 330 6 (g - 1) hb (by decide) (by omega) (by decide) o2 (by omega) h2 ?_
        intro low3 rg3 hd3 hc3 wr3 sq3 ch3 h3
        dsimp only
        have o3 := sq_ok_run (D := sq_tree 330 (g - 1) 6 1) o2
        rw [sq_tree_len] at o3
        intro x ex w ew
        rw [ex, ew, nI_1, nI_add]
        refine ih (q - m) (i + m) 1 (st + 1) (d + 1 + 3 + 6) _ _ _ _ _ _ _ _ _ _ (by omega) (by omega) (by omega) o3 (by omega) h3 ?_ (by omega)
        intro T low' rg' hd' hc' wr' ml' md' sq' ch' t1 t0 t2 t3
        have et : sq_toks (sq_v dr) ((m, g) :: T) bf i = (bf, 1) :: (sq_tree 322 (m - 2) 3 1 ++ (sq_tree 330 (g - 1) 6 1 ++ sq_toks (sq_v dr) T 1 (i + m))) := if_neg y
        refine hp ((m, g) :: T) _ _ _ _ _ _ _ _ _ (Or.inr ⟨by omega, ⟨m9, g1, gi, mlen, meq⟩, t1⟩) ?_ ?_ t3
        · rw [et, sq_run_cons, sq_run_app, sq_run_app]; exact t0
        · rw [et, sq_run_cons, sq_run_app, sq_run_app]; exact t2
theorem sq_x_start {post : SX → Prop} (hp : ∀ ch' : Nat → Int32, (∀ j, j < 394 → ch' j = nI 1024) → post (dl, pl, fi, co, low, rg, hd, hc, ba, wr, cd, ra, ml, md, dr, pg, sq, ch')) : wpX_startChances post (dl, pl, fi, co, low, rg, hd, hc, ba, wr, cd, ra, ml, md, dr, pg, sq, ch) := by
  have key : ∀ (q k n : Nat) (ch : Nat → Int32), q + k = 394 → (∀ j, j < k → ch j = nI 1024) → q < n →
      wX_startChances_2 post dl pl fi co low rg hd hc ba wr cd ra ml md n (nI k) dr pg sq ch := by
    intro q
    induction q with
    | zero =>
      intro k n ch hk h hn
      obtain ⟨n, rfl⟩ : ∃ n', n = n' + 1 := ⟨n - 1, by omega⟩
      exact br_t (nI_le (a := 394) (by omega) (by omega)) (hp ch (fun j hj => h j (by omega)))
    | succ q ih =>
      intro k n ch hk h hn
      obtain ⟨n, rfl⟩ : ∃ n', n = n' + 1 := ⟨n - 1, by omega⟩
      refine br_f (nI_ge (b := 394) (by omega) (by decide)) ⟨vp_in_nI (by omega) (by decide), ?_⟩
      intro x ex y ey
      rw [ex, ey, nI_clamp (by omega), nI_1]
      refine ih (k + 1) n _ (by omega) (fun j hj => ?_) (by omega)
      by_cases w : j = k
      · rw [w, pk_us]; rfl
      · rw [pk_un w]; exact h j (by omega)
  exact Exists.intro 395 (key 394 0 395 ch rfl (fun j hj => absurd hj (by omega)) (by omega))
theorem sq_x_squeeze {post : SX → Prop} {b len : Nat} (hb : b ≤ 1056) (hlen : len ≤ 48) (hv : ∀ j, j < len → dr j = nI (sq_v dr j) ∧ sq_v dr j < 256)
    (hp : ∀ (low' rg' : Int64) (hd' hc' wr' ml' md' : Int32) (sq' ch' : Nat → Int32), sq_blk (sq_byt b sq') (sq_v dr) len → (∀ j, (j < b ∨ b + 352 ≤ j) → sq' j = sq j) →
        post (nI len, pl, fi, co, low', rg', hd', hc', nI b, wr', cd, ra, ml', md', dr, pg, sq', ch')) :
    wpX_squeeze post (nI len, pl, fi, co, low, rg, hd, hc, nI b, wr, cd, ra, ml, md, dr, pg, sq, ch) := by
  unfold wpX_squeeze; dsimp only
  refine sq_x_start ?_
  intro ch' hch
  dsimp only
  have E : sq_EI sq b sq_e0 0 4294967295 0 1 0 sq ch' :=
    ⟨0, 0, 0, 0, rfl, rfl, rfl, rfl, rfl, ⟨by decide, rfl, by show 0 + 4294967296 = (0 * 256 + 0 + 1) * 256 ^ 0 * 4294967296 + 0; decide, by decide, by decide, by decide⟩, fun j _ => rfl, hch⟩
  refine sq_x_tree 2 6 len hb (by decide) (by omega) (by decide) sq_ok_0 (by omega) E ?_
  intro low2 rg2 hd2 hc2 wr2 sq2 ch2 h2
  dsimp only
  have o2 := sq_ok_run (D := sq_tree 2 len 6 1) sq_ok_0
  rw [sq_tree_len] at o2
  refine ⟨len + 1, sq_x_48 hb hlen hv (len + 1) len 0 0 0 (0 + 6) _ _ _ _ _ _ _ _ _ _ rfl (by omega) (by omega) o2 (by omega) h2 ?_ (by omega)⟩
  intro T low' rg' hd' hc' wr' ml' md' sq' ch' t1 t0 t2 t3
  refine hp _ _ _ _ _ _ _ _ _ ⟨hlen, fun i hi => (hv i hi).2, T, t1, ?_, ?_⟩ t3
  · rw [sq_run_app]; exact t0
  · rw [sq_run_app]; exact t2
end
end
section
/-! taking out -/
/-- the reader's fields stand for e over the bytes t -/
def sq_DI (t : Nat → Nat) (e : sq_S) (rg cd : Int64) (ra : Int32) (ch : Nat → Int32) : Prop :=
  rg = lN e.2.1 ∧ cd = lN (sq_B t (e.2.2.2 + 5) - e.2.2.1) ∧ ra = nI (e.2.2.2 + 5) ∧ ∀ j, j < 394 → ch j = nI (e.1 j)
theorem sq_in {C t : Nat} (hC : C < 4294967296) (ht : t < 256) : (lN C <<< ((8 : Int32).toInt64 &&& 63)) ||| (nI t).toInt64 = lN (C * 256 + t) := by
  rw [sq_rgsh, nI_l (by omega)]
  exact g_or (k := 8) (by decide) ht (by omega)
section
variable {dl pl fi co hd hc ba wr ra ml md : Int32} {low rg cd : Int64} {dr pg sq ch : Nat → Int32}
theorem sq_x_take {post : Int32 → SX → Prop} {b p : Nat} (hb : b ≤ 1056) (hp352 : p < 352) (hp : post (nI (sq_byt b sq p)) (dl, pl, fi, co, low, rg, hd, hc, nI b, wr, cd, nI (p + 1), ml, md, dr, pg, sq, ch)) :
    wpX_takeByte post (dl, pl, fi, co, low, rg, hd, hc, nI b, wr, cd, nI p, ml, md, dr, pg, sq, ch) := by
  unfold wpX_takeByte; dsimp only
  refine br_f (nI_ge (b := 352) hp352 (by decide)) ?_
  rw [nI_add, nI_clamp (by omega), sq_byt_eq]
  exact ⟨vp_in_nI (by omega) (by decide), nm_r (nI_1 p) hp⟩
theorem sq_x_65 {post : Int32 → SX → Prop} {b N s R a v : Nat} {c : Nat → Nat} (hb : b ≤ 1056) (hs : s ≤ 340) (ha : a < 394) (hv : v < 2) (hcok : sq_cok c)
    (h1 : N ≤ sq_B (sq_byt b sq) (s + 5)) (h2 : sq_B (sq_byt b sq) (s + 5) < N + R) (hR : R < 4294967296) (hch : ∀ j, j < 394 → ch j = nI (c j))
    (hp : ∀ (rg' cd' : Int64) (ra' : Int32) (ch' : Nat → Int32), sq_DI (sq_byt b sq) (sq_nm (sq_ln c a v) R N s) rg' cd' ra' ch' → post (nI v) (dl, pl, fi, co, low, rg', hd, hc, nI b, wr, cd', ra', ml, md, dr, pg, sq, ch')) :
    wX_readBit_65 post (nI a) (nI v) dl pl fi co low (lN R) hd hc (nI b) wr (lN (sq_B (sq_byt b sq) (s + 5) - N)) (nI (s + 5)) ml md dr pg sq ch := by
  unfold wX_readBit_65
  refine sq_x_learn ha hch (hcok a) hv ?_
  intro ch' h'
  dsimp only
  by_cases z : R < 16777216
  · refine br_f (fun g => absurd ((pk_lLE (a := 16777216) (by decide) (by omega)).mp g) (by omega)) (nm_r (sq_rgsh R) ?_)
    refine sq_x_take hb (by omega) ?_
    dsimp only
    intro x ex
    rw [ex, sq_in (by omega) (sq_byt_lt _ _ _)]
    refine hp _ _ _ _ ?_
    unfold sq_nm
    rw [if_pos z]
    refine ⟨rfl, ?_, rfl, h'⟩
    show lN _ = lN (sq_B (sq_byt b sq) (s + 5) * 256 + sq_byt b sq (s + 5) - N * 256)
    exact congrArg lN (by omega)
  · refine br_t ((pk_lLE (a := 16777216) (by decide) (by omega)).mpr (by omega)) (hp _ _ _ _ ?_)
    unfold sq_nm
    rw [if_neg z]
    exact ⟨rfl, rfl, rfl, h'⟩
theorem sq_x_rbit {post : Int32 → SX → Prop} {b a v d : Nat} {e : sq_S} (hb : b ≤ 1056) (ha : a < 394) (hv : v < 2) (ho : sq_ok e d) (hd438 : d ≤ 438)
    (hfit : sq_fit (sq_byt b sq) (sq_step e (a, v))) (h : sq_DI (sq_byt b sq) e rg cd ra ch)
    (hp : ∀ (rg' cd' : Int64) (ra' : Int32) (ch' : Nat → Int32), sq_DI (sq_byt b sq) (sq_step e (a, v)) rg' cd' ra' ch' → post (nI v) (dl, pl, fi, co, low, rg', hd, hc, nI b, wr, cd', ra', ml, md, dr, pg, sq, ch')) :
    wpX_readBit post (dl, pl, fi, co, low, rg, hd, hc, nI b, wr, cd, ra, ml, md, dr, pg, sq, ch) (nI a) := by
  have hs := sq_s_le ho hd438
  obtain ⟨c, R, N, s⟩ := e
  obtain ⟨e1, e2, e3, hch⟩ := h
  obtain ⟨o1, o2, o3, o4⟩ := ho
  dsimp only at *
  have hbd := sq_bd (R := R) (o1 a)
  rw [e1, e2, e3]
  unfold wpX_readBit; dsimp only
  refine ⟨vp_in_nI ha (by decide), ?_⟩
  rw [nI_clamp (by omega), hch a ha, sq_bnd o3 (o1 a).2]
  intro x ex
  rw [ex]
  rcases (by omega : v = 0 ∨ v = 1) with rfl | rfl
  · obtain ⟨f1, f2⟩ := sq_fit_0 (sq_byt_lt b sq) hfit
    rw [sq_step_0] at hp
    refine br_f (fun g => absurd ((pk_lLE (by omega) (by omega)).mp g) (by omega)) ?_
    refine br_t (show (0 : Int32) = 0 from rfl) ?_
    exact sq_x_65 (v := 0) hb (by omega) ha hv o1 f1 f2 (by omega) hch hp
  · obtain ⟨f1, f2⟩ := sq_fit_1 (sq_byt_lt b sq) hfit
    rw [sq_step_1] at hp
    refine br_t ((pk_lLE (by omega) (by omega)).mpr (by omega)) ?_
    refine br_f (show ¬ (1 : Int32) = 0 from by decide) ?_
    refine nm_r (lN_sub (by omega)) (nm_r (lN_sub (by omega)) ?_)
    rw [Nat.sub_sub]
    exact sq_x_65 (v := 1) hb (by omega) ha hv o1 f1 f2 (by omega) hch hp
theorem sq_x_rt5 {post : Int32 → SX → Prop} {b a v M bits : Nat} (hb : b ≤ 1056) (hM : a + M ≤ 394) (hbits : bits ≤ 8) :
    ∀ (k node j d n : Nat) (e : sq_S) (rg cd : Int64) (ra : Int32) (ch : Nat → Int32), j + k = bits → (node + 1) * 2 ^ k ≤ 2 * M → sq_ok e d → d + k ≤ 438 →
      sq_fit (sq_byt b sq) (sq_run e (sq_tree a v k node)) → sq_DI (sq_byt b sq) e rg cd ra ch →
      (∀ (rg' cd' : Int64) (ra' : Int32) (ch' : Nat → Int32), sq_DI (sq_byt b sq) (sq_run e (sq_tree a v k node)) rg' cd' ra' ch' →
        post (nI (node * 2 ^ k + v % 2 ^ k) - ((1 : Int32) <<< (nI bits &&& 31))) (dl, pl, fi, co, low, rg', hd, hc, nI b, wr, cd', ra', ml, md, dr, pg, sq, ch')) →
      k < n → wX_readTree_5 post (nI a) (nI bits) n (nI node) (nI j) dl pl fi co low rg hd hc (nI b) wr cd ra ml md dr pg sq ch := by
  intro k
  induction k with
  | zero =>
    intro node j d n e rg cd ra ch hj _ _ _ _ h hp hn
    obtain ⟨n, rfl⟩ : ∃ n', n = n' + 1 := ⟨n - 1, by omega⟩
    have := hp _ _ _ _ h
    rw [Nat.pow_zero, Nat.mul_one, Nat.mod_one, Nat.add_zero] at this
    exact br_t (nI_le (by omega) (by omega)) this
  | succ k ih =>
    intro node j d n e rg cd ra ch hj hM2 ho hdk hfit h hp hn
    obtain ⟨n, rfl⟩ : ∃ n', n = n' + 1 := ⟨n - 1, by omega⟩
    have hpw : 2 ^ (k + 1) = 2 * 2 ^ k := by rw [Nat.pow_succ, Nat.mul_comm]
    have h1 : (node + 1) * 2 ^ k ≤ M := by
      rw [hpw, Nat.mul_left_comm] at hM2
      exact Nat.le_of_mul_le_mul_left hM2 (by omega)
    have hnode : node + 1 ≤ M := Nat.le_trans (Nat.le_mul_of_pos_right _ (Nat.two_pow_pos k)) h1
    have hbit : v / 2 ^ k % 2 < 2 := Nat.mod_lt _ (by omega)
    refine br_f (nI_ge (by omega) (by omega)) ?_
    rw [nI_add]
    have hfit1 : sq_fit (sq_byt b sq) (sq_step e (a + node, v / 2 ^ k % 2)) := sq_fit_run (sq_byt_lt b sq) (sq_step_cok ho.1) hfit
    refine sq_x_rbit hb (by omega) hbit ho (by omega) hfit1 h ?_
    intro rg1 cd1 ra1 ch1 h1'
    dsimp only
    intro x ex y ey
    have ex' : x = nI (2 * node + v / 2 ^ k % 2) := by
      rw [ex, ← nI_add, ← pk_mul]
      exact rfl
    rw [ex', ey, nI_1]
    refine ih _ (j + 1) (d + 1) n _ _ _ _ _ (by omega) ?_ (sq_ok_step ho _) (by omega) hfit h1' ?_ (by omega)
    · refine Nat.le_trans (Nat.mul_le_mul_right (2 ^ k) (show 2 * node + v / 2 ^ k % 2 + 1 ≤ 2 * (node + 1) from by omega)) ?_
      rw [Nat.mul_assoc]
      exact Nat.mul_le_mul_left 2 h1
    · intro rg2 cd2 ra2 ch2 h2
      rw [sq_node]
      exact hp _ _ _ _ h2
theorem sq_x_rtree {post : Int32 → SX → Prop} {b d : Nat} {e : sq_S} (a k v : Nat) (hb : b ≤ 1056) (hM : a + 2 ^ k ≤ 394) (hk : k ≤ 8) (hv : v < 2 ^ k) (ho : sq_ok e d) (hdk : d + k ≤ 438)
    (hfit : sq_fit (sq_byt b sq) (sq_run e (sq_tree a v k 1))) (h : sq_DI (sq_byt b sq) e rg cd ra ch)
    (hp : ∀ (rg' cd' : Int64) (ra' : Int32) (ch' : Nat → Int32), sq_DI (sq_byt b sq) (sq_run e (sq_tree a v k 1)) rg' cd' ra' ch' →
        post (nI v) (dl, pl, fi, co, low, rg', hd, hc, nI b, wr, cd', ra', ml, md, dr, pg, sq, ch')) :
    wpX_readTree post (dl, pl, fi, co, low, rg, hd, hc, nI b, wr, cd, ra, ml, md, dr, pg, sq, ch) (nI a) (nI k) := by
  have hpw : 2 ^ k ≤ 2 ^ 8 := Nat.pow_le_pow_right (by omega) hk
  refine Exists.intro (k + 1) (sq_x_rt5 (M := 2 ^ k) (v := v) hb hM hk k 1 0 d (k + 1) e _ _ _ _ (by omega) (by omega) ho hdk hfit h ?_ (by omega))
  intro rg' cd' ra' ch' h'
  have e1 : (1 : Int32) <<< (nI k &&& 31) = nI (1 * 2 ^ k) := pk_shlN (n := 1) _ k (s_l k (by omega)) (by omega)
  have e2 : nI (1 * 2 ^ k + v % 2 ^ k) - ((1 : Int32) <<< (nI k &&& 31)) = nI v := by
    rw [e1, pk_sub (by omega), Nat.add_sub_cancel_left, Nat.mod_eq_of_lt hv]
  rw [e2]
  exact hp _ _ _ _ h'
/-- the page holds v below i, and what it held ahead from i on -/
def sq_pg (v : Nat → Nat) (p0 : Nat → Int32) (i : Nat) (pg : Nat → Int32) : Prop := ∀ j, pg j = if j < i then nI (v j) else p0 j
theorem sq_pg_up {v : Nat → Nat} {p0 pg : Nat → Int32} {i : Nat} (h : sq_pg v p0 i pg) : sq_pg v p0 (i + 1) (upd pg i (nI (v i))) := by
  intro j
  by_cases w : j = i
  · rw [w, pk_us, if_pos (by omega)]
  · rw [pk_un w, h j]
    by_cases z : j < i
    · rw [if_pos z, if_pos (by omega)]
    · rw [if_neg z, if_neg (by omega)]
theorem sq_x_copy {post : SX → Prop} {v : Nat → Nat} {p0 : Nat → Int32} {len i m g : Nat} (hlen : len ≤ 48) (hcp : sq_cp v len i m g) (h : sq_pg v p0 i pg)
    (hp : ∀ pg' : Nat → Int32, sq_pg v p0 (i + m) pg' → post (dl, nI (i + m), fi, co, low, rg, hd, hc, ba, wr, cd, ra, ml, md, dr, pg', sq, ch)) : wpX_copyBack post (dl, nI i, fi, co, low, rg, hd, hc, ba, wr, cd, ra, ml, md, dr, pg, sq, ch) (nI m) (nI g) := by
  obtain ⟨c1, c2, c3, c4, c5⟩ := hcp
  have key : ∀ (q k n : Nat) (pg : Nat → Int32), q + k = m → sq_pg v p0 (i + k) pg → q < n →
      wX_copyBack_2 post (nI m) (nI g) dl fi co low rg hd hc ba wr cd ra ml md n (nI k) (nI (i + k)) dr pg sq ch := by
    intro q
    induction q with
    | zero =>
      intro k n pg hk h hn
      obtain ⟨n, rfl⟩ : ∃ n', n = n' + 1 := ⟨n - 1, by omega⟩
      obtain rfl : k = m := by omega
      exact br_t (nI_le (Nat.le_refl _) (by omega)) (hp pg h)
    | succ q ih =>
      intro k n pg hk h hn
      obtain ⟨n, rfl⟩ : ∃ n', n = n' + 1 := ⟨n - 1, by omega⟩
      refine br_f (nI_ge (by omega) (by omega)) (br_f (nI_ge (b := 48) (by omega) (by decide)) (br_f (nI_nlt (by omega) (by omega)) ?_))
      rw [pk_sub (by omega), nI_clamp (by omega), nI_clamp (by omega)]
      refine ⟨vp_in_nI (by omega) (by decide), vp_in_nI (by omega) (by decide), ?_⟩
      have e : pg (i + k - g) = nI (v (i + k)) := by rw [h, if_pos (by omega), c5 k (by omega)]
      intro x ex y ey w ew
      rw [ex, ey, ew, e, nI_1, nI_1]
      exact ih (k + 1) n _ (by omega) (sq_pg_up h) (by omega)
  exact Exists.intro (m + 1) (key m 0 (m + 1) pg (by omega) h (by omega))
theorem sq_x_74 {post : SX → Prop} {v : Nat → Nat} {p0 : Nat → Int32} {b len : Nat} (hb : b ≤ 1056) (hlen : len ≤ 48) (hv : ∀ j, j < len → v j < 256)
    (hp : ∀ (rg' cd' : Int64) (ra' : Int32) (ch' pg' : Nat → Int32), sq_pg v p0 len pg' → post (dl, nI len, fi, co, low, rg', hd, hc, nI b, wr, cd', ra', ml, md, dr, pg', sq, ch')) :
    ∀ (T : List (Nat × Nat)) (i bf st d n : Nat) (e : sq_S) (rg cd : Int64) (ra : Int32) (ch pg : Nat → Int32), sq_tok v len T i → i ≤ len → st ≤ i → bf < 2 → sq_ok e d → d ≤ 6 + 9 * i →
      sq_fit (sq_byt b sq) (sq_run e (sq_toks v T bf i)) → sq_DI (sq_byt b sq) e rg cd ra ch → sq_pg v p0 i pg → T.length < n →
      wX_unsqueeze_74 post (nI len) n (nI bf) (nI st) dl (nI i) fi co low rg hd hc (nI b) wr cd ra ml md dr pg sq ch := by
  intro T
  induction T with
  | nil =>
    intro i bf st d n e rg cd ra ch pg ht hi _ _ _ _ _ _ hpg hn
    obtain ⟨n, rfl⟩ : ∃ n', n = n' + 1 := ⟨n - 1, by omega⟩
    obtain rfl : i = len := ht
    exact br_c (fun _ => hp _ _ _ _ _ hpg) (fun _ => br_t (nI_le (Nat.le_refl _) (by omega)) (hp _ _ _ _ _ hpg))
  | cons t T ih =>
    intro i bf st d n e rg cd ra ch pg ht hi hst hbf ho hd9 hfit h hpg hn
    obtain ⟨n, rfl⟩ : ∃ n', n = n' + 1 := ⟨n - 1, by omega⟩
    obtain ⟨m, g⟩ := t
    have hn' : T.length < n := by rw [List.length_cons] at hn; omega
    rcases ht with ⟨m2, il, t1⟩ | ⟨m2, hcp, t1⟩
    · refine br_f (nI_ge (b := 48) (by omega) (by decide)) (br_f (nI_ge (by omega) (by omega)) ?_)
      have et : sq_toks v ((m, g) :: T) bf i = (bf, 0) :: (sq_tree 66 (v i) 8 1 ++ sq_toks v T 0 (i + 1)) := if_pos m2
      rw [et, sq_run_cons, sq_run_app] at hfit
      have o1 := sq_ok_step ho (bf, 0)
      have o2 := sq_ok_run (D := sq_tree 66 (v i) 8 1) o1
      rw [sq_tree_len] at o2
      have f2 := sq_fit_run (sq_byt_lt b sq) o2.1 hfit
      have f1 := sq_fit_run (sq_byt_lt b sq) o1.1 f2
      refine sq_x_rbit hb (by omega) (by omega) ho (by omega) f1 h ?_
      intro rg1 cd1 ra1 ch1 h1
      dsimp only
      refine br_f (show ¬ nI 0 = 1 from by decide) ?_
      refine sq_x_rtree 66 8 (v i) hb (by decide) (by decide) (hv i il) o1 (by omega) f2 h1 ?_
      intro rg2 cd2 ra2 ch2 h2
      dsimp only
      refine ⟨vp_in_nI (by omega) (by decide), ?_⟩
      intro x ex y ey w ew
      rw [ex, ey, ew, nI_clamp (by omega), nI_1, nI_1]
      exact ih (i + 1) 0 (st + 1) (d + 1 + 8) n _ _ _ _ _ _ t1 (by omega) (by omega) (by omega) o2 (by omega) hfit h2 (sq_pg_up hpg) hn'
    · have hcp' := hcp
      obtain ⟨c1, c2, c3, c4, c5⟩ := hcp'
      refine br_f (nI_ge (b := 48) (by omega) (by decide)) (br_f (nI_ge (by omega) (by omega)) ?_)
      have et : sq_toks v ((m, g) :: T) bf i = (bf, 1) :: (sq_tree 322 (m - 2) 3 1 ++ (sq_tree 330 (g - 1) 6 1 ++ sq_toks v T 1 (i + m))) := if_neg (by omega)
      rw [et, sq_run_cons, sq_run_app, sq_run_app] at hfit
      have o1 := sq_ok_step ho (bf, 1)
      have o2 := sq_ok_run (D := sq_tree 322 (m - 2) 3 1) o1
      rw [sq_tree_len] at o2
      have o3 := sq_ok_run (D := sq_tree 330 (g - 1) 6 1) o2
      rw [sq_tree_len] at o3
      have f3 := sq_fit_run (sq_byt_lt b sq) o3.1 hfit
      have f2 := sq_fit_run (sq_byt_lt b sq) o2.1 f3
      have f1 := sq_fit_run (sq_byt_lt b sq) o1.1 f2
      refine sq_x_rbit hb (by omega) (by omega) ho (by omega) f1 h ?_
      intro rg1 cd1 ra1 ch1 h1
      dsimp only
      refine br_t (show nI 1 = 1 from rfl) ?_
      refine sq_x_rtree 322 3 (m - 2) hb (by decide) (by decide) (by omega) o1 (by omega) f2 h1 ?_
      intro rg2 cd2 ra2 ch2 h2
      dsimp only
      have em : nI (m - 2) + 2 = nI m := (nI_add (m - 2) 2).trans (congrArg nI (by omega))
      refine nm_r em ?_
      refine sq_x_rtree 330 6 (g - 1) hb (by decide) (by decide) (by omega) o2 (by omega) f3 h2 ?_
      intro rg3 cd3 ra3 ch3 h3
      dsimp only
      have eg : nI (g - 1) + 1 = nI g := (nI_add (g - 1) 1).trans (congrArg nI (by omega))
      refine nm_r eg ?_
      refine sq_x_copy hlen hcp hpg ?_
      intro pg' hpg'
      dsimp only
      intro w ew
      rw [ew, nI_1]
      exact ih (i + m) 1 (st + 1) (d + 1 + 3 + 6) n _ _ _ _ _ _ t1 (by omega) (by omega) (by omega) o3 (by omega) hfit h3 hpg' hn'
theorem sq_x_23 {post : SX → Prop} {b : Nat} (hb : b ≤ 1056) (hB : ∀ k, k ≤ 5 → sq_B (sq_byt b sq) k < 4294967296)
    (hp : ∀ n : Nat, wX_unsqueeze_23 post (n + 1) (nI 5) dl pl fi co low rg hd hc (nI b) wr (lN (sq_B (sq_byt b sq) 5)) (nI 5) ml md dr pg sq ch) :
    ∀ (q k n : Nat), q + k = 5 → q < n → wX_unsqueeze_23 post n (nI k) dl pl fi co low rg hd hc (nI b) wr (lN (sq_B (sq_byt b sq) k)) (nI k) ml md dr pg sq ch := by
  intro q
  induction q with
  | zero =>
    intro k n hk hn
    obtain ⟨n, rfl⟩ : ∃ n', n = n' + 1 := ⟨n - 1, by omega⟩
    obtain rfl : k = 5 := by omega
    exact hp n
  | succ q ih =>
    intro k n hk hn
    obtain ⟨n, rfl⟩ : ∃ n', n = n' + 1 := ⟨n - 1, by omega⟩
    refine br_f (lt5' k (by omega)) ?_
    refine sq_x_take hb (by omega) ?_
    dsimp only
    have hb1 := hB k (by omega)
    have hb2 : sq_B (sq_byt b sq) k * 256 + sq_byt b sq k < 4294967296 := hB (k + 1) (by omega)
    have e : lN (sq_B (sq_byt b sq) k * 256 + sq_byt b sq k) &&& 4294967295 = lN (sq_B (sq_byt b sq) (k + 1)) := by
      have f : lN (sq_B (sq_byt b sq) k * 256 + sq_byt b sq k) &&& 4294967295 = lN ((sq_B (sq_byt b sq) k * 256 + sq_byt b sq k) % 4294967296) :=
        g_mask (s := 32) (p := 4294967296) (by decide) (by decide) (by omega)
      rw [f, Nat.mod_eq_of_lt hb2]
      rfl
    intro x ex y ey
    rw [ex, ey, sq_in hb1 (sq_byt_lt _ _ _), e, nI_1]
    exact ih (k + 1) n (by omega) (by omega)
theorem sq_x_unsqueeze {post : SX → Prop} {v : Nat → Nat} {b len : Nat} (hb : b ≤ 1056) (h : sq_blk (sq_byt b sq) v len)
    (hp : ∀ (rg' cd' : Int64) (ra' : Int32) (ch' pg' : Nat → Int32), sq_pg v pg len pg' → post (dl, nI len, fi, co, low, rg', hd, hc, nI b, wr, cd', ra', ml, md, dr, pg', sq, ch')) :
    wpX_unsqueeze post (dl, pl, fi, co, low, rg, hd, hc, nI b, wr, cd, ra, ml, md, dr, pg, sq, ch) := by
  obtain ⟨hlen, hv, T, ht, _, hfit⟩ := h
  unfold wpX_unsqueeze; dsimp only
  refine sq_x_start ?_
  intro ch' hch
  dsimp only
  rw [sq_run_app] at hfit
  have o2 := sq_ok_run (D := sq_tree 2 len 6 1) sq_ok_0
  rw [sq_tree_len] at o2
  have f1 := sq_fit_run (sq_byt_lt b sq) o2.1 hfit
  have f0 : sq_fit (sq_byt b sq) sq_e0 := sq_fit_run (sq_byt_lt b sq) sq_ok_0.1 f1
  have f5 : sq_B (sq_byt b sq) 5 < 4294967296 := by
    have f := f0.2
    replace f : sq_B (sq_byt b sq) 5 < 0 + 4294967295 := f
    omega
  have mono : ∀ k, sq_B (sq_byt b sq) k ≤ sq_B (sq_byt b sq) (k + 1) := fun k => by
    show _ ≤ sq_B (sq_byt b sq) k * 256 + sq_byt b sq k
    omega
  have hB : ∀ k, k ≤ 5 → sq_B (sq_byt b sq) k < 4294967296 := by
    intro k hk
    have m0 : sq_B (sq_byt b sq) 0 ≤ sq_B (sq_byt b sq) 1 := mono 0
    have m1 : sq_B (sq_byt b sq) 1 ≤ sq_B (sq_byt b sq) 2 := mono 1
    have m2 : sq_B (sq_byt b sq) 2 ≤ sq_B (sq_byt b sq) 3 := mono 2
    have m3 : sq_B (sq_byt b sq) 3 ≤ sq_B (sq_byt b sq) 4 := mono 3
    have m4 : sq_B (sq_byt b sq) 4 ≤ sq_B (sq_byt b sq) 5 := mono 4
    rcases (by omega : k = 0 ∨ k = 1 ∨ k = 2 ∨ k = 3 ∨ k = 4 ∨ k = 5) with rfl | rfl | rfl | rfl | rfl | rfl <;> omega
  refine ⟨6, sq_x_23 hb hB ?_ 5 0 6 rfl (by omega)⟩
  have D0 : sq_DI (sq_byt b sq) sq_e0 4294967295 (lN (sq_B (sq_byt b sq) 5)) (nI 5) ch' := ⟨rfl, rfl, rfl, hch⟩
  intro n
  refine br_t (show (5 : Int32) ≤ nI 5 from by decide) ?_
  refine sq_x_rtree 2 6 len hb (by decide) (by decide) (by omega) sq_ok_0 (by omega) f1 D0 ?_
  intro rg2 cd2 ra2 ch2 h2
  dsimp only
  exact ⟨T.length + 1, sq_x_74 hb hlen hv hp T 0 0 0 (0 + 6) (T.length + 1) _ _ _ _ _ _ ht (by omega) (by omega) (by omega) o2 (by omega) hfit h2
    (fun j => by rw [if_neg (by omega)]) (by omega)⟩
end
end
section
/-! the relation -/
def sq_by (f : Nat → Int32) : Prop := ∀ j, f j = nI (sq_v f j) ∧ sq_v f j < 256
theorem sq_by_of {x : Int32} {m : Nat} (hm : m < 256) (e : x = nI m) : x = nI x.toNatClampNeg ∧ x.toNatClampNeg < 256 := by
  rw [e, nI_clamp (by omega)]
  exact ⟨rfl, hm⟩
theorem sq_by_upd {f : Nat → Int32} {k m : Nat} {x : Int32} (h : sq_by f) (hm : m < 256) (e : x = nI m) : sq_by (upd f k x) := by
  intro j
  unfold sq_v
  by_cases z : j = k
  · rw [z, pk_us]; exact sq_by_of hm e
  · rw [pk_un z]; exact h j
theorem sq_by_at {f : Nat → Int32} (h : sq_by f) (j : Nat) : ∃ m, m < 256 ∧ f j = nI m := ⟨_, (h j).2, (h j).1⟩
/-- the squeezed blocks hold what the plain queue holds -/
def sq_que (F C : Nat) (sq yq yl : Nat → Int32) : Prop :=
  ∀ b, b < C → ∃ (v : Nat → Nat) (len : Nat), yl b = nI len ∧ sq_blk (sq_byt (352 * ((F + b) % 4)) sq) v len ∧ ∀ i, i < len → yq (48 * b + i) = nI (v i)
def sq_Q (D P F C : Nat) (dr pg sq yq yl : Nat → Int32) : Prop := D ≤ 48 ∧ P ≤ 48 ∧ F < 4 ∧ C ≤ 4 ∧ sq_by dr ∧ sq_by pg ∧ sq_que F C sq yq yl
def i_Rel (_ : Nat) (u : SX) (v : SY) : Prop :=
  ∃ (D P F C : Nat) (low rg : Int64) (hd hc ba wr : Int32) (cd : Int64) (ra ml md : Int32) (dr pg sq ch yq yl : Nat → Int32),
    u = (nI D, nI P, nI F, nI C, low, rg, hd, hc, ba, wr, cd, ra, ml, md, dr, pg, sq, ch) ∧ v = (nI D, nI P, nI C, dr, pg, yq, yl) ∧ sq_Q D P F C dr pg sq yq yl
theorem i_up {k : Nat} {u : SX} {v : SY} (h : i_Rel k u v) : i_Rel (k + 3) u v := h
section
variable {hd hc ba wr ra ml md : Int32} {low rg cd : Int64} {dr pg sq ch yq yl : Nat → Int32}
theorem sq_mk {k D P F C : Nat} (h : sq_Q D P F C dr pg sq yq yl) : i_Rel k (nI D, nI P, nI F, nI C, low, rg, hd, hc, ba, wr, cd, ra, ml, md, dr, pg, sq, ch) (nI D, nI P, nI C, dr, pg, yq, yl) :=
  ⟨D, P, F, C, low, rg, hd, hc, ba, wr, cd, ra, ml, md, dr, pg, sq, ch, yq, yl, rfl, rfl, h⟩
end
theorem sq_el {k : Nat} {u : SX} {v : SY} {Z : SX → SY → Prop} (I : i_Rel k u v)
    (h : ∀ (D P F C : Nat) (low rg : Int64) (hd hc ba wr : Int32) (cd : Int64) (ra ml md : Int32) (dr pg sq ch yq yl : Nat → Int32), sq_Q D P F C dr pg sq yq yl →
      Z (nI D, nI P, nI F, nI C, low, rg, hd, hc, ba, wr, cd, ra, ml, md, dr, pg, sq, ch) (nI D, nI P, nI C, dr, pg, yq, yl)) : Z u v := by
  obtain ⟨D, P, F, C, low, rg, hd, hc, ba, wr, cd, ra, ml, md, dr, pg, sq, ch, yq, yl, e1, e2, q⟩ := I
  rw [e1, e2]
  exact h D P F C low rg hd hc ba wr cd ra ml md dr pg sq ch yq yl q
/-! the reference's loops, and loops in step -/
section
variable {dl pl fi co hd hc ba wr ra ml md : Int32} {low rg cd : Int64} {dr pg sq ch : Nat → Int32}
variable {dn pn bk : Int32} {yd yp yq yl : Nat → Int32}
theorem sq_rep {g m : Nat} (hg : 1 ≤ g) (hm : m ≤ 48) : ∀ (q k D : Nat) (dr : Nat → Int32), q + k = m → D + q ≤ 48 → g ≤ D → sq_by dr → ∃ dr' : Nat → Int32, sq_by dr' ∧
    (∀ post : Int32 → SX → Prop, post (nI (D + q)) (nI (D + q), pl, fi, co, low, rg, hd, hc, ba, wr, cd, ra, ml, md, dr', pg, sq, ch) → wX_repeat_33 post (nI g) (nI m) pl fi co low rg hd hc ba wr cd ra ml md (q + 1) (nI k) (nI D) dr pg sq ch) ∧
    (∀ post : Int32 → SY → Prop, post (nI (D + q)) (nI (D + q), pn, bk, dr', yp, yq, yl) → wY_repeat_33 post (nI g) (nI m) pn bk (q + 1) (nI k) (nI D) dr yp yq yl) := by
  intro q
  induction q with
  | zero =>
    intro k D dr hk _ _ hby
    have h : nI m ≤ nI k := nI_le (by omega) (by omega)
    exact ⟨dr, hby, fun post hp => br_t h hp, fun post hp => br_t h hp⟩
  | succ q ih =>
    intro k D dr hk hD hgD hby
    obtain ⟨x, hx, ex⟩ := sq_by_at hby (D - g)
    obtain ⟨dr', hby', hX, hY⟩ := ih (k + 1) (D + 1) (upd dr D (dr (D - g))) (by omega) (by omega) (by omega) (sq_by_upd hby hx ex)
    have h : ¬ nI m ≤ nI k := nI_ge (by omega) (by omega)
    have h1 : vp_in (nI D) 48 := vp_in_nI (by omega) (by decide)
    have h2 : vp_in (nI D - nI g) 48 := by rw [pk_sub hgD]; exact vp_in_nI (by omega) (by decide)
    have e2 : (nI D - nI g).toNatClampNeg = D - g := by rw [pk_sub hgD]; exact nI_clamp (by omega)
    have e1 : (nI D).toNatClampNeg = D := nI_clamp (by omega)
    have e3 : D + 1 + q = D + (q + 1) := by omega
    rw [e3] at hX hY
    refine ⟨dr', hby', fun post hp => br_f h ⟨h2, h1, ?_⟩, fun post hp => br_f h ⟨h2, h1, ?_⟩⟩
    · rw [e1, e2]
      intro a ea b eb c ec
      rw [ea, eb, ec, nI_1, nI_1]
      exact hX post hp
    · rw [e1, e2]
      intro a ea b eb c ec
      rw [ea, eb, ec, nI_1, nI_1]
      exact hY post hp
theorem sq_edit {P : Nat} (hP : P ≤ 48) (hpg : sq_by pg) : ∀ (q k : Nat) (dr : Nat → Int32), q + k = P → sq_by dr → ∃ dr' : Nat → Int32, sq_by dr' ∧
    (∀ post : SX → Prop, post (nI P, nI P, fi, co, low, rg, hd, hc, ba, wr, cd, ra, ml, md, dr', pg, sq, ch) → wX_edit_2 post dl (nI P) fi co low rg hd hc ba wr cd ra ml md (q + 1) (nI k) dr pg sq ch) ∧
    (∀ post : SY → Prop, post (dn, nI P, bk, dr', pg, yq, yl) → wY_edit_10 post dn (nI P) bk (q + 1) (nI k) dr pg yq yl) := by
  intro q
  induction q with
  | zero =>
    intro k dr hk hby
    have h : nI P ≤ nI k := nI_le (by omega) (by omega)
    exact ⟨dr, hby, fun post hp => br_t h hp, fun post hp => br_t h hp⟩
  | succ q ih =>
    intro k dr hk hby
    obtain ⟨x, hx, ex⟩ := sq_by_at hpg k
    obtain ⟨dr', hby', hX, hY⟩ := ih (k + 1) (upd dr k (pg k)) (by omega) (sq_by_upd hby hx ex)
    have h : ¬ nI P ≤ nI k := nI_ge (by omega) (by omega)
    have h1 : vp_in (nI k) 48 := vp_in_nI (by omega) (by decide)
    have e1 : (nI k).toNatClampNeg = k := nI_clamp (by omega)
    refine ⟨dr', hby', fun post hp => br_f h ⟨h1, h1, ?_⟩, fun post hp => br_f h ⟨h1, h1, ?_⟩⟩
    · rw [e1]
      intro a ea b eb
      rw [ea, eb, nI_1]
      exact hX post hp
    · rw [e1]
      intro a ea b eb
      rw [ea, eb, nI_1]
      exact hY post hp
theorem sq_find {P : Nat} {x f : Int32} (hP : P ≤ 48) : ∀ (q k : Nat), q + k = P → (∀ j, k ≤ j → j ≤ P → ¬ nI j < f) → ∃ r : Int32,
    (∀ post : Int32 → Prop, post r → wX_find_10 post x dl (nI P) fi co low rg hd hc ba wr cd ra ml md dr pg sq ch (q + 1) (nI k)) ∧
    (∀ post : Int32 → Prop, post r → wY_find_2 post x f dn (nI P) bk yd pg yq yl (q + 1) (nI k)) := by
  intro q
  induction q with
  | zero =>
    intro k hk _
    have h : nI P ≤ nI k := nI_le (by omega) (by omega)
    exact ⟨-1, fun post hp => br_t h hp, fun post hp => br_t h hp⟩
  | succ q ih =>
    intro k hk hf
    obtain ⟨r, hX, hY⟩ := ih (k + 1) (by omega) (fun j h1 h2 => hf j (by omega) h2)
    have h : ¬ nI P ≤ nI k := nI_ge (by omega) (by omega)
    have h0 := hf k (Nat.le_refl _) (by omega)
    have h1 : vp_in (nI k) 48 := vp_in_nI (by omega) (by decide)
    by_cases z : pg (nI k).toNatClampNeg = x &&& 255
    · exact ⟨nI k, fun post hp => br_f h ⟨h1, br_t z hp⟩, fun post hp => br_f h (br_f h0 ⟨h1, br_t z hp⟩)⟩
    · exact ⟨r, fun post hp => br_f h ⟨h1, br_f z (nm_r (nI_1 k) (hX post hp))⟩, fun post hp => br_f h (br_f h0 ⟨h1, br_f z (nm_r (nI_1 k) (hY post hp))⟩)⟩
theorem sq_skip {P f m n : Nat} {x : Int32} {post : Int32 → Prop} (hP : P ≤ 48) (hf : f < 2 ^ 31) (h1 : m ≤ f) (h2 : m ≤ P) (h : wY_find_2 post x (nI f) dn (nI P) bk yd yp yq yl n (nI m)) :
    ∀ (q k : Nat), q + k = m → wY_find_2 post x (nI f) dn (nI P) bk yd yp yq yl (n + q) (nI k) := by
  intro q
  induction q with
  | zero => intro k hk; obtain rfl : k = m := by omega
            exact h
  | succ q ih =>
    intro k hk
    exact br_f (nI_ge (by omega) (by omega)) (br_t (nI_lt (by omega) hf) (nm_r (nI_1 k) (ih (k + 1) (by omega))))
theorem sq_y_send {post : Int32 → SY → Prop} {D C : Nat} (hD : D ≤ 48) (hC : C < 4)
    (hp : ∀ yq' : Nat → Int32, (∀ i, i < D → yq' (48 * C + i) = yd i) → (∀ j, j < 48 * C → yq' j = yq j) → post (nI (C + 1)) (nI D, pn, nI (C + 1), yd, yp, yq', upd yl C (nI D))) :
    wpY_send post (nI D, pn, nI C, yd, yp, yq, yl) := by
  have key : ∀ (q k n : Nat) (yq' : Nat → Int32), q + k = D → (∀ i, i < k → yq' (48 * C + i) = yd i) → (∀ j, j < 48 * C → yq' j = yq j) → q < n →
      wY_send_12 post (nI D) pn (nI C) n (nI k) yd yp yq' yl := by
    intro q
    induction q with
    | zero =>
      intro k n yq' hk h1 h2 hn
      obtain ⟨n, rfl⟩ : ∃ n', n = n' + 1 := ⟨n - 1, by omega⟩
      refine br_t (nI_le (by omega) (by omega)) ⟨vp_in_nI (by omega) (by decide), ?_⟩
      intro a ea b eb
      rw [ea, eb, nI_clamp (by omega), nI_1]
      exact hp yq' (fun i hi => h1 i (by omega)) h2
    | succ q ih =>
      intro k n yq' hk h1 h2 hn
      obtain ⟨n, rfl⟩ : ∃ n', n = n' + 1 := ⟨n - 1, by omega⟩
      have e : (48 : Int32) * nI C + nI k = nI (48 * C + k) := by
        have e1 : (48 : Int32) * nI C = nI (48 * C) := pk_mul 48 C
        rw [e1, nI_add]
      refine br_f (nI_ge (by omega) (by omega)) ?_
      rw [e, nI_clamp (by omega), nI_clamp (by omega)]
      refine ⟨vp_in_nI (by omega) (by decide), vp_in_nI (by omega) (by decide), ?_⟩
      intro a ea b eb
      rw [ea, eb, nI_1]
      refine ih (k + 1) n _ (by omega) (fun i hi => ?_) (fun j hj => ?_) (by omega)
      · by_cases w : i = k
        · rw [w, pk_us]
        · rw [pk_un (by omega)]; exact h1 i (by omega)
      · rw [pk_un (by omega)]; exact h2 j hj
  unfold wpY_send; dsimp only
  refine br_f (fun z => absurd ((nI_eq (b := 4) (by omega) (by decide)).mp z) (by omega)) ?_
  exact ⟨D + 1, key D 0 (D + 1) yq (by omega) (fun i hi => absurd hi (by omega)) (fun j _ => rfl) (by omega)⟩
/-- the queue with its first p places moved down by a block -/
def sq_sh (q0 : Nat → Int32) (t p : Nat) (q : Nat → Int32) : Prop := ∀ j, q j = if j < p then q0 (j + t) else q0 j
theorem sq_sh_up {q0 q : Nat → Int32} {t p : Nat} (h : sq_sh q0 t p q) : sq_sh q0 t (p + 1) (upd q p (q (p + t))) := by
  intro j
  by_cases w : j = p
  · rw [w, pk_us, if_pos (by omega), h (p + t), if_neg (by omega)]
  · rw [pk_un w, h j]
    by_cases z : j < p
    · rw [if_pos z, if_pos (by omega)]
    · rw [if_neg z, if_neg (by omega)]
theorem sq_y_83 {post : Int32 → SY → Prop} {J : Int32 → (Nat → Int32) → (Nat → Int32) → (Nat → Int32) → (Nat → Int32) → Prop} {b : Nat} {q0 : Nat → Int32} (hb : b < 3)
    (hp : ∀ yq' : Nat → Int32, sq_sh q0 48 (48 * (b + 1)) yq' → J (nI (b + 1)) yd yp yq' yl) :
    ∀ (q i n : Nat) (yq : Nat → Int32), q + i = 48 → sq_sh q0 48 (48 * b + i) yq → q < n → wY_receive_83 post J (nI b) dn pn bk n (nI i) yd yp yq yl := by
  have e0 : (48 : Int32) * nI b = nI (48 * b) := pk_mul 48 b
  have e1 : (48 : Int32) * (nI b + 1) = nI (48 * (b + 1)) := by rw [nI_1]; exact pk_mul 48 (b + 1)
  intro q
  induction q with
  | zero =>
    intro i n yq hi h hn
    obtain ⟨n, rfl⟩ : ∃ n', n = n' + 1 := ⟨n - 1, by omega⟩
    refine br_t (nI_le (a := 48) (by omega) (by omega)) (nm_r (nI_1 b) (hp yq ?_))
    rw [show 48 * (b + 1) = 48 * b + i from by omega]
    exact h
  | succ q ih =>
    intro i n yq hi h hn
    obtain ⟨n, rfl⟩ : ∃ n', n = n' + 1 := ⟨n - 1, by omega⟩
    refine br_f (nI_ge (b := 48) (by omega) (by decide)) ?_
    rw [e1, e0, nI_add, nI_add, nI_clamp (by omega), nI_clamp (by omega)]
    refine ⟨vp_in_nI (by omega) (by decide), vp_in_nI (by omega) (by decide), ?_⟩
    intro a ea c ec
    rw [ea, ec, nI_1, show 48 * (b + 1) + i = 48 * b + i + 48 from by omega]
    exact ih (i + 1) n _ (by omega) (sq_sh_up h) (by omega)
theorem sq_y_59 {post : Int32 → SY → Prop} {C : Nat} {q0 l0 : Nat → Int32} (hC : C < 4)
    (hp : ∀ yq' yl' : Nat → Int32, sq_sh q0 48 (48 * C) yq' → sq_sh l0 1 C yl' → post pn (dn, pn, nI C, yd, yp, yq', yl')) :
    ∀ (q b n : Nat) (yq yl : Nat → Int32), q + b = C → sq_sh q0 48 (48 * b) yq → sq_sh l0 1 b yl → q < n → wY_receive_59 post dn pn (nI C) n (nI b) yd yp yq yl := by
  intro q
  induction q with
  | zero =>
    intro b n yq yl hb h1 h2 hn
    obtain ⟨n, rfl⟩ : ∃ n', n = n' + 1 := ⟨n - 1, by omega⟩
    obtain rfl : b = C := by omega
    exact br_t (nI_le (Nat.le_refl _) (by omega)) (hp yq yl h1 h2)
  | succ q ih =>
    intro b n yq yl hb h1 h2 hn
    obtain ⟨n, rfl⟩ : ∃ n', n = n' + 1 := ⟨n - 1, by omega⟩
    refine br_f (nI_ge (by omega) (by omega)) ?_
    rw [nI_1, nI_clamp (by omega), nI_clamp (by omega)]
    refine ⟨vp_in_nI (by omega) (by decide), vp_in_nI (by omega) (by decide), ?_⟩
    intro a ea
    rw [ea]
    refine ⟨49, sq_y_83 (q0 := q0) (by omega) ?_ 48 0 49 yq rfl h1 (by omega)⟩
    intro yq' h'
    exact ih (b + 1) n yq' _ (by omega) h' (sq_sh_up h2) (by omega)
theorem sq_y_receive {post : Int32 → SY → Prop} {C len : Nat} (h0 : 0 < C) (hC : C ≤ 4) (hlen : len ≤ 48) (hl : yl 0 = nI len)
    (hp : ∀ yp' yq' yl' : Nat → Int32, (∀ j, yp' j = if j < len then yq j else yp j) → sq_sh yq 48 (48 * (C - 1)) yq' → sq_sh yl 1 (C - 1) yl' →
      post (nI len) (dn, nI len, nI (C - 1), yd, yp', yq', yl')) : wpY_receive post (dn, pn, nI C, yd, yp, yq, yl) := by
  have key : ∀ (q k n : Nat) (yp' : Nat → Int32), q + k = len → (∀ j, yp' j = if j < k then yq j else yp j) → q < n →
      wY_receive_21 post dn (nI len) (nI C) n (nI k) yd yp' yq yl := by
    intro q
    induction q with
    | zero =>
      intro k n yp' hk h hn
      obtain ⟨n, rfl⟩ : ∃ n', n = n' + 1 := ⟨n - 1, by omega⟩
      obtain rfl : k = len := by omega
      have e : nI C - 1 = nI (C - 1) := pk_sub (b := 1) h0
      refine br_t (nI_le (Nat.le_refl _) (by omega)) (nm_r e ⟨C, ?_⟩)
      exact sq_y_59 (q0 := yq) (l0 := yl) (by omega) (fun yq' yl' h1 h2 => hp yp' yq' yl' h h1 h2) (C - 1) 0 C yq yl (by omega) (fun j => by rw [if_neg (by omega)]) (fun j => by rw [if_neg (by omega)]) (by omega)
    | succ q ih =>
      intro k n yp' hk h hn
      obtain ⟨n, rfl⟩ : ∃ n', n = n' + 1 := ⟨n - 1, by omega⟩
      refine br_f (nI_ge (by omega) (by omega)) ⟨vp_in_nI (by omega) (by decide), vp_in_nI (by omega) (by decide), ?_⟩
      intro a ea b eb
      rw [ea, eb, nI_clamp (by omega), nI_1]
      refine ih (k + 1) n _ (by omega) (fun j => ?_) (by omega)
      by_cases w : j = k
      · rw [w, pk_us, if_pos (by omega)]
      · rw [pk_un w, h j]
        by_cases z : j < k
        · rw [if_pos z, if_pos (by omega)]
        · rw [if_neg z, if_neg (by omega)]
  unfold wpY_receive; dsimp only
  refine br_f (nI_ne0 h0 (by omega)) ?_
  intro x ex
  rw [ex, hl]
  exact ⟨len + 1, key len 0 (len + 1) yp (by omega) (fun j => by rw [if_neg (by omega)]) (by omega)⟩
end
end
section
/-! the owed statements -/
theorem i_vc0 : wpX_init (fun u => wpY_init (fun v => i_Rel 0 u v)) := by
  have hz : sq_by (fun _ => (0 : Int32)) := fun j => sq_by_of (m := 0) (by omega) rfl
  unfold wpX_init wpY_init
  exact sq_mk (D := 0) (P := 0) (F := 0) (C := 0) ⟨by omega, by omega, by omega, by omega, hz, hz, fun b hb => absurd hb (by omega)⟩
theorem i_vc_put {k : Nat} {u : SX} {v : SY} (I : i_Rel k u v) (hk : k + 3 ≤ 1536) (v1 : Int32) : wpX_put (fun r u' => wpY_put (fun r' v' => r' = r ∧ i_Rel (k + 3) u' v') v v1) u v1 := by
  refine sq_el (Z := fun u v => wpX_put (fun r u' => wpY_put (fun r' v' => r' = r ∧ i_Rel (k + 3) u' v') v v1) u v1) I ?_
  intro D P F C low rg hd hc ba wr cd ra ml md dr pg sq ch yq yl q
  have q' := q
  obtain ⟨q1, q2, q3, q4, q5, q6, q7⟩ := q'
  unfold wpX_put wpY_put; dsimp only
  by_cases z : D = 48
  · refine br_f (nI_nlt (b := 48) (by omega) (by omega)) (br_t ?_ ⟨rfl, sq_mk q⟩)
    rw [z]; rfl
  · have h1 : vp_in (nI D) 48 := vp_in_nI (by omega) (by decide)
    refine br_t (nI_lt (b := 48) (by omega) (by decide)) ⟨h1, ?_⟩
    intro a ea b eb
    refine br_f (fun w => z ((nI_eq (b := 48) (by omega) (by decide)).mp w)) ⟨h1, ?_⟩
    intro a' ea' b' eb'
    rw [ea, ea', eb, eb', nI_clamp (by omega), nI_1]
    obtain ⟨m, hm, e⟩ := pk_andE v1 (m := 255) 8 (by decide)
    exact ⟨rfl, sq_mk ⟨by omega, q2, q3, q4, sq_by_upd q5 hm e, q6, q7⟩⟩
theorem i_vc_repeat {k : Nat} {u : SX} {v : SY} (I : i_Rel k u v) (hk : k + 3 ≤ 1536) (v1 : Int32) (v2 : Int32) : wpX_repeat (fun r u' => wpY_repeat (fun r' v' => r' = r ∧ i_Rel (k + 3) u' v') v v1 v2) u v1 v2 := by
  refine sq_el (Z := fun u v => wpX_repeat (fun r u' => wpY_repeat (fun r' v' => r' = r ∧ i_Rel (k + 3) u' v') v v1 v2) u v1 v2) I ?_
  intro D P F C low rg hd hc ba wr cd ra ml md dr pg sq ch yq yl q
  have q' := q
  obtain ⟨q1, q2, q3, q4, q5, q6, q7⟩ := q'
  have pos : ∀ x : Int32, ¬ x < 1 → ∃ g : Nat, 1 ≤ g ∧ g < 2 ^ 31 ∧ x = nI g := by
    intro x hx
    have h0 : ¬ x < 0 := by
      intro w
      apply hx
      rw [Int32.lt_iff_toInt_lt] at w ⊢
      have e0 : (0 : Int32).toInt = 0 := by decide
      have e1 : (1 : Int32).toInt = 1 := by decide
      omega
    obtain ⟨g, hg, e⟩ := nI_of h0
    refine ⟨g, ?_, hg, e⟩
    rcases Nat.eq_zero_or_pos g with w | w
    · rw [e, w] at hx; exact absurd (by decide) hx
    · exact w
  have e48 : (48 : Int32) - nI D = nI (48 - D) := pk_sub (a := 48) q1
  unfold wpX_repeat wpY_repeat; dsimp only
  rw [e48]
  by_cases c1 : v1 < 1
  · exact br_t c1 (br_t c1 ⟨rfl, sq_mk q⟩)
  obtain ⟨g, g1, g2, rfl⟩ := pos v1 c1
  by_cases c2 : nI D < nI g
  · exact br_f c1 (br_t c2 (br_f c1 (br_t c2 ⟨rfl, sq_mk q⟩)))
  by_cases c3 : v2 < 1
  · exact br_f c1 (br_f c2 (br_t c3 (br_f c1 (br_f c2 (br_t c3 ⟨rfl, sq_mk q⟩)))))
  obtain ⟨m, m1, m2, rfl⟩ := pos v2 c3
  by_cases c4 : nI m ≤ nI (48 - D)
  · have hg : g ≤ D := by
      rw [nI_ltI (by omega) g2] at c2
      omega
    have hm : m ≤ 48 - D := by
      rw [nI_leI m2 (by omega)] at c4
      exact c4
    refine br_f c1 (br_f c2 (br_f c3 (br_t c4 ?_)))
    obtain ⟨dr', hby, hX, hY⟩ := @sq_rep (nI P) (nI F) (nI C) hd hc ba wr ra ml md low rg cd pg sq ch (nI P) (nI C) pg yq yl g m g1 (by omega) m 0 D dr (by omega) (by omega) hg q5
    refine ⟨m + 1, hX _ ?_⟩
    refine br_f c1 (br_f c2 (br_f c3 (br_t c4 ?_)))
    exact ⟨m + 1, hY _ ⟨rfl, sq_mk ⟨by omega, q2, q3, q4, hby, q6, q7⟩⟩⟩
  · exact br_f c1 (br_f c2 (br_f c3 (br_f c4 (br_f c1 (br_f c2 (br_f c3 (br_f c4 ⟨rfl, sq_mk q⟩)))))))
theorem i_vc_erase {k : Nat} {u : SX} {v : SY} (I : i_Rel k u v) (hk : k + 3 ≤ 1536) : wpX_erase (fun u' => wpY_erase (fun v' => i_Rel (k + 3) u' v') v) u := by
  refine sq_el (Z := fun u v => wpX_erase (fun u' => wpY_erase (fun v' => i_Rel (k + 3) u' v') v) u) I ?_
  intro D P F C low rg hd hc ba wr cd ra ml md dr pg sq ch yq yl q
  obtain ⟨q1, q2, q3, q4, q5, q6, q7⟩ := q
  unfold wpX_erase wpY_erase; dsimp only
  exact sq_mk (D := 0) ⟨by omega, q2, q3, q4, q5, q6, q7⟩
theorem i_vc_send {k : Nat} {u : SX} {v : SY} (I : i_Rel k u v) (hk : k + 3 ≤ 1536) : wpX_send (fun r u' => wpY_send (fun r' v' => r' = r ∧ i_Rel (k + 3) u' v') v) u := by
  refine sq_el (Z := fun u v => wpX_send (fun r u' => wpY_send (fun r' v' => r' = r ∧ i_Rel (k + 3) u' v') v) u) I ?_
  intro D P F C low rg hd hc ba wr cd ra ml md dr pg sq ch yq yl q
  have q' := q
  obtain ⟨q1, q2, q3, q4, q5, q6, q7⟩ := q'
  unfold wpX_send; dsimp only
  by_cases z : C = 4
  · refine br_f (nI_nlt (b := 4) (by omega) (by omega)) ?_
    unfold wpY_send; dsimp only
    refine br_t ?_ ⟨rfl, sq_mk q⟩
    rw [z]; rfl
  · refine br_t (nI_lt (b := 4) (by omega) (by decide)) ?_
    have e : (352 : Int32) * ((nI F + nI C) &&& 3) = nI (352 * ((F + C) % 4)) := by
      have e1 : nI (F + C) &&& 3 = nI ((F + C) % 4) := pk_andN (by omega) 2 (by decide)
      rw [nI_add, e1]
      exact pk_mul 352 _
    refine nm_r e ?_
    refine sq_x_squeeze (by omega) q1 (fun j _ => q5 j) ?_
    intro low' rg' hd' hc' wr' ml' md' sq' ch' hblk hfr
    dsimp only
    intro x ex
    rw [ex, nI_1]
    refine sq_y_send q1 (by omega) ?_
    intro yq' h1 h2
    refine ⟨rfl, sq_mk ⟨q1, q2, q3, by omega, q5, q6, ?_⟩⟩
    intro b hb
    by_cases w : b = C
    · subst w
      exact ⟨sq_v dr, D, pk_us, hblk, fun i hi => by rw [h1 i hi]; exact (q5 i).1⟩
    · obtain ⟨v, len, l1, l2, l3⟩ := q7 b (by omega)
      have hlen := l2.1
      refine ⟨v, len, by rw [pk_un w]; exact l1, sq_blk_congr l2 (fun j hj => ?_), fun i hi => by rw [h2 _ (by omega)]; exact l3 i hi⟩
      unfold sq_byt
      rw [hfr _ (by omega)]
theorem i_vc_receive {k : Nat} {u : SX} {v : SY} (I : i_Rel k u v) (hk : k + 3 ≤ 1536) : wpX_receive (fun r u' => wpY_receive (fun r' v' => r' = r ∧ i_Rel (k + 3) u' v') v) u := by
  refine sq_el (Z := fun u v => wpX_receive (fun r u' => wpY_receive (fun r' v' => r' = r ∧ i_Rel (k + 3) u' v') v) u) I ?_
  intro D P F C low rg hd hc ba wr cd ra ml md dr pg sq ch yq yl q
  have q' := q
  obtain ⟨q1, q2, q3, q4, q5, q6, q7⟩ := q'
  unfold wpX_receive; dsimp only
  by_cases z : C = 0
  · have e : nI C = 0 := by rw [z]; rfl
    refine br_t e ?_
    unfold wpY_receive; dsimp only
    exact br_t e ⟨rfl, sq_mk q⟩
  · refine br_f (nI_ne0 (by omega) (by omega)) ?_
    have e : (352 : Int32) * nI F = nI (352 * F) := pk_mul 352 F
    refine nm_r e ?_
    obtain ⟨v, len, l1, l2, l3⟩ := q7 0 (by omega)
    rw [show (F + 0) % 4 = F from by omega] at l2
    have hlen := l2.1
    refine sq_x_unsqueeze (by omega) l2 ?_
    intro rg' cd' ra' ch' pg' hpg
    dsimp only
    have e1 : (nI F + 1) &&& 3 = nI ((F + 1) % 4) := by
      rw [nI_1]
      exact pk_andN (by omega) 2 (by decide)
    have e2 : nI C - 1 = nI (C - 1) := pk_sub (b := 1) (by omega)
    refine nm_r e1 (nm_r e2 ?_)
    refine sq_y_receive (by omega) q4 hlen l1 ?_
    intro yp' yq' yl' h1 h2 h3
    have ep : yp' = pg' := by
      funext j
      rw [h1 j, hpg j]
      by_cases w : j < len
      · rw [if_pos w, if_pos w]
        have := l3 j w
        rw [show 48 * 0 + j = j from by omega] at this
        exact this
      · rw [if_neg w, if_neg w]
    rw [ep]
    refine ⟨rfl, sq_mk ⟨q1, hlen, by omega, by omega, q5, ?_, ?_⟩⟩
    · intro j
      show pg' j = nI (pg' j).toNatClampNeg ∧ (pg' j).toNatClampNeg < 256
      rw [hpg j]
      by_cases w : j < len
      · rw [if_pos w]; exact sq_by_of (l2.2.1 j w) rfl
      · rw [if_neg w]; exact q6 j
    · intro b hb
      obtain ⟨v', len', m1, m2, m3⟩ := q7 (b + 1) (by omega)
      have hlen' := m2.1
      refine ⟨v', len', ?_, ?_, ?_⟩
      · rw [h3 b, if_pos (by omega)]; exact m1
      · rw [show ((F + 1) % 4 + b) % 4 = (F + (b + 1)) % 4 from by omega]; exact m2
      · intro i hi
        rw [h2 (48 * b + i), if_pos (by omega), show 48 * b + i + 48 = 48 * (b + 1) + i from by omega]
        exact m3 i hi
theorem i_vc_at {k : Nat} {u : SX} {v : SY} (I : i_Rel k u v) (hk : k + 3 ≤ 1536) (v1 : Int32) : wpX_at (fun r => wpY_at (fun r' => r' = r ∧ i_Rel (k + 3) u v) v v1) u v1 := by
  refine sq_el (Z := fun u v => wpX_at (fun r => wpY_at (fun r' => r' = r ∧ i_Rel (k + 3) u v) v v1) u v1) I ?_
  intro D P F C low rg hd hc ba wr cd ra ml md dr pg sq ch yq yl q
  have q' := q
  obtain ⟨q1, q2, q3, q4, q5, q6, q7⟩ := q'
  unfold wpX_at wpY_at; dsimp only
  by_cases c1 : v1 < 0
  · exact br_t c1 (br_t c1 ⟨rfl, sq_mk q⟩)
  by_cases c2 : v1 < nI P
  · have h1 : vp_in v1 48 := by
      obtain ⟨j, hj, e⟩ := nI_of c1
      rw [e, nI_ltI hj (by omega)] at c2
      rw [e]
      exact vp_in_nI (by omega) (by decide)
    exact br_f c1 (br_t c2 ⟨h1, br_f c1 (br_t c2 ⟨h1, rfl, sq_mk q⟩)⟩)
  · exact br_f c1 (br_f c2 (br_f c1 (br_f c2 ⟨rfl, sq_mk q⟩)))
theorem i_vc_length {k : Nat} {u : SX} {v : SY} (I : i_Rel k u v) (hk : k + 3 ≤ 1536) : wpX_length (fun r => wpY_length (fun r' => r' = r ∧ i_Rel (k + 3) u v) v) u := by
  refine sq_el (Z := fun u v => wpX_length (fun r => wpY_length (fun r' => r' = r ∧ i_Rel (k + 3) u v) v) u) I ?_
  intro D P F C low rg hd hc ba wr cd ra ml md dr pg sq ch yq yl q
  exact And.intro rfl (sq_mk q)
theorem i_vc_blocks {k : Nat} {u : SX} {v : SY} (I : i_Rel k u v) (hk : k + 3 ≤ 1536) : wpX_blocks (fun r => wpY_blocks (fun r' => r' = r ∧ i_Rel (k + 3) u v) v) u := by
  refine sq_el (Z := fun u v => wpX_blocks (fun r => wpY_blocks (fun r' => r' = r ∧ i_Rel (k + 3) u v) v) u) I ?_
  intro D P F C low rg hd hc ba wr cd ra ml md dr pg sq ch yq yl q
  exact And.intro rfl (sq_mk q)
theorem i_vc_find {k : Nat} {u : SX} {v : SY} (I : i_Rel k u v) (hk : k + 3 ≤ 1536) (v1 : Int32) (v2 : Int32) : wpX_find (fun r => wpY_find (fun r' => r' = r ∧ i_Rel (k + 3) u v) v v1 v2) u v1 v2 := by
  refine sq_el (Z := fun u v => wpX_find (fun r => wpY_find (fun r' => r' = r ∧ i_Rel (k + 3) u v) v v1 v2) u v1 v2) I ?_
  intro D P F C low rg hd hc ba wr cd ra ml md dr pg sq ch yq yl q
  have q' := q
  obtain ⟨q1, q2, q3, q4, q5, q6, q7⟩ := q'
  unfold wpX_find wpY_find; dsimp only
  by_cases c1 : 0 ≤ v2
  · refine br_t c1 ?_
    obtain ⟨f, hf, ef⟩ := nI_of (x := v2) (Int32.not_lt.mpr c1)
    rw [ef]
    by_cases c2 : f ≤ P
    · obtain ⟨r, hX, hY⟩ := @sq_find (nI D) (nI F) (nI C) hd hc ba wr ra ml md low rg cd dr pg sq ch (nI D) (nI C) dr yq yl P v1 (nI f) q2 (P - f) f (by omega) (fun j h1 _ => nI_nlt h1 (by omega))
      exact ⟨_, hX _ ⟨_, sq_skip q2 hf (Nat.le_refl _) c2 (hY _ ⟨rfl, sq_mk q⟩) f 0 rfl⟩⟩
    · refine ⟨1, br_t (nI_le (by omega) hf) ⟨_, sq_skip (m := P) (n := 1) q2 hf (by omega) (Nat.le_refl _) (br_t (nI_le (Nat.le_refl _) (by omega)) ⟨rfl, sq_mk q⟩) P 0 rfl⟩⟩
  · refine br_f c1 ?_
    have hneg : ∀ j, 0 ≤ j → j ≤ P → ¬ nI j < v2 := by
      intro j _ hj w
      apply c1
      rw [Int32.lt_iff_toInt_lt, nI_toInt (by omega)] at w
      rw [Int32.le_iff_toInt_le, show (0 : Int32).toInt = 0 from by decide]
      omega
    obtain ⟨r, hX, hY⟩ := @sq_find (nI D) (nI F) (nI C) hd hc ba wr ra ml md low rg cd dr pg sq ch (nI D) (nI C) dr yq yl P v1 v2 q2 P 0 rfl hneg
    exact ⟨_, hX _ ⟨_, hY _ ⟨rfl, sq_mk q⟩⟩⟩
theorem i_vc_edit {k : Nat} {u : SX} {v : SY} (I : i_Rel k u v) (hk : k + 3 ≤ 1536) : wpX_edit (fun u' => wpY_edit (fun v' => i_Rel (k + 3) u' v') v) u := by
  refine sq_el (Z := fun u v => wpX_edit (fun u' => wpY_edit (fun v' => i_Rel (k + 3) u' v') v) u) I ?_
  intro D P F C low rg hd hc ba wr cd ra ml md dr pg sq ch yq yl q
  obtain ⟨q1, q2, q3, q4, q5, q6, q7⟩ := q
  unfold wpX_edit wpY_edit; dsimp only
  obtain ⟨dr', hby, hX, hY⟩ := @sq_edit (nI D) (nI F) (nI C) hd hc ba wr ra ml md low rg cd pg sq ch (nI P) (nI C) yq yl P q2 q6 P 0 dr rfl q5
  exact ⟨_, hX _ ⟨_, hY _ (sq_mk ⟨q2, q2, q3, q4, hby, q6, q7⟩)⟩⟩
end
