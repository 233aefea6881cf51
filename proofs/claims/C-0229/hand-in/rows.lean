section
/-! pure rows to paste: stores, nI and lN arithmetic, masks, shifts, narrowing, branches by naturals (pk_le, pk_lt, pk_eq), loops (lp1 .. lp16: the measure of the state; rp1 ..: recursion), negatives. Take what you need -/
theorem pk_us {f : Nat → Int32} {k : Nat} {x : Int32} : upd f k x k = x := if_pos rfl
theorem pk_un {f : Nat → Int32} {k j : Nat} {x : Int32} (h : j ≠ k) : upd f k x j = f j := if_neg h
theorem pk_uLs {f : Nat → Int64} {k : Nat} {x : Int64} : vp_updL f k x k = x := if_pos rfl
theorem pk_uLn {f : Nat → Int64} {k j : Nat} {x : Int64} (h : j ≠ k) : vp_updL f k x j = f j := if_neg h
theorem pk_sub {a b : Nat} (h : b ≤ a) : nI a - nI b = nI (a - b) := by
  obtain ⟨c, rfl⟩ : ∃ c, a = c + b := ⟨a - b, by omega⟩
  rw [← nI_add, Int32.add_sub_cancel, Nat.add_sub_cancel]
theorem pk_m1 (n : Nat) : nI (n + 1) + (-1) = nI n := by
  rw [← nI_1, Int32.add_assoc, show (1 : Int32) + (-1) = 0 from rfl, Int32.add_zero]
theorem pk_mul (a b : Nat) : nI a * nI b = nI (a * b) := (Int32.ofNat_mul a b).symm
theorem pk_div {a d : Nat} (ha : a < 2 ^ 31) (h0 : 0 < d) (hd : d < 2 ^ 31) : nI a / nI d = nI (a / d) := by
  apply Int32.toInt_inj.mp
  rw [lg_idiv_nonneg (by rw [nI_toInt ha]; omega) (by rw [nI_toInt hd]; omega), nI_toInt ha, nI_toInt hd, nI_toInt (Nat.lt_of_le_of_lt (Nat.div_le_self a d) ha)]
  first | rfl | exact (Int.natCast_ediv _ _).symm
theorem pk_rem {a d : Nat} (ha : a < 2 ^ 31) (h0 : 0 < d) (hd : d < 2 ^ 31) : nI a - nI a / nI d * nI d = nI (a % d) := by
  rw [pk_div ha h0 hd, pk_mul, pk_sub (Nat.div_mul_le_self a d)]
  exact congrArg nI (by have := Nat.div_add_mod' a d; omega)
theorem pk_sub_toInt {a b : Nat} (ha : a < 2 ^ 30) (hb : b < 2 ^ 30) : (nI a - nI b).toInt = (a : Int) - b := by
  rw [Int32.toInt_sub, nI_toInt (by omega), nI_toInt (by omega)]
  exact Int.bmod_eq_of_le (by omega) (by omega)
theorem pk_sneg {a b : Nat} (hb : b < 2 ^ 30) (h : a < b) : nI a - nI b < 0 := by
  rw [Int32.lt_iff_toInt_lt, pk_sub_toInt (by omega) hb, show (0 : Int32).toInt = 0 from by decide]
  omega
theorem pk_ix (x : Int32) {n : Nat} (hn : n < 2 ^ 31) : x < 0 ∨ nI n ≤ x ∨ ∃ j : Nat, j < n ∧ x = nI j := by
  by_cases h : x < 0
  · exact Or.inl h
  · obtain ⟨j, hj, rfl⟩ := nI_of h
    by_cases h2 : j < n
    · exact Or.inr (Or.inr ⟨j, h2, rfl⟩)
    · exact Or.inr (Or.inl (nI_le (by omega) hj))
theorem pk_le {x y : Int32} {A B : Prop} (a b : Nat) (f : a ≤ b → A) (g : b < a → B) (hx : x = nI a := by rfl) (hy : y = nI b := by rfl) (ha : a < 2 ^ 31 := by omega) (hb : b < 2 ^ 31 := by omega) : (x ≤ y → A) ∧ (¬ x ≤ y → B) := by
  subst hx hy
  rw [nI_leI ha hb]
  exact ⟨f, fun z => g (by omega)⟩
theorem pk_lt {x y : Int32} {A B : Prop} (a b : Nat) (f : a < b → A) (g : b ≤ a → B) (hx : x = nI a := by rfl) (hy : y = nI b := by rfl) (ha : a < 2 ^ 31 := by omega) (hb : b < 2 ^ 31 := by omega) : (x < y → A) ∧ (¬ x < y → B) := by
  subst hx hy
  rw [nI_ltI ha hb]
  exact ⟨f, fun z => g (by omega)⟩
theorem pk_eq {x y : Int32} {A B : Prop} (a b : Nat) (f : a = b → A) (g : a ≠ b → B) (hx : x = nI a := by rfl) (hy : y = nI b := by rfl) (ha : a < 2 ^ 31 := by omega) (hb : b < 2 ^ 31 := by omega) : (x = y → A) ∧ (¬ x = y → B) := by
  subst hx hy
  rw [nI_eq ha hb]
  exact ⟨f, g⟩
theorem pk_in {x : Int32} (n N : Nat) (h : n < N) (hx : x = nI n := by rfl) (hN : N < 2 ^ 31 := by omega) : vp_in x N := by
  subst hx
  exact vp_in_nI h hN
theorem pk_cl {x : Int32} (n : Nat) (hx : x = nI n := by rfl) (h : n < 2 ^ 31 := by omega) : x.toNatClampNeg = n := by
  subst hx
  exact nI_clamp h
theorem pk_tn {n : Nat} (h : n < 2 ^ 32) : (nI n).toBitVec.toNat = n := Nat.mod_eq_of_lt h
theorem pk_and (x : Int32) {m : Int32} (k : Nat) (hm : m.toBitVec.toNat = 2 ^ k - 1) : x &&& m = nI (x.toBitVec.toNat % 2 ^ k) := by
  apply Int32.toBitVec_inj.mp
  apply BitVec.eq_of_toNat_eq
  rw [Int32.toBitVec_and, BitVec.toNat_and, hm, Nat.and_two_pow_sub_one_eq_mod]
  show _ = (BitVec.ofNat 32 _).toNat
  rw [BitVec.toNat_ofNat]
  exact (Nat.mod_eq_of_lt (Nat.lt_of_le_of_lt (Nat.mod_le _ _) x.toBitVec.isLt)).symm
theorem pk_andN {n : Nat} (h : n < 2 ^ 32) {m : Int32} (k : Nat) (hm : m.toBitVec.toNat = 2 ^ k - 1) : nI n &&& m = nI (n % 2 ^ k) := by
  rw [pk_and _ k hm, pk_tn h]
theorem pk_andE (x : Int32) {m : Int32} (k : Nat) (hm : m.toBitVec.toNat = 2 ^ k - 1) : ∃ j : Nat, j < 2 ^ k ∧ x &&& m = nI j := ⟨_, Nat.mod_lt _ (Nat.two_pow_pos k), pk_and x k hm⟩
theorem pk_andIn (x : Int32) {m : Int32} (k : Nat) (hm : m.toBitVec.toNat = 2 ^ k - 1) (hk : k ≤ 30) : vp_in (x &&& m) (2 ^ k) := by
  obtain ⟨j, hj, e⟩ := pk_andE x k hm
  rw [e]
  exact vp_in_nI hj (Nat.lt_of_le_of_lt (Nat.pow_le_pow_right (by decide) hk) (by decide))
theorem pk_shl (a s : Int32) (k : Nat) (hs : (s.toBitVec.smod 32).toNat = k) : (a <<< s).toBitVec.toNat = a.toBitVec.toNat * 2 ^ k % 2 ^ 32 := by
  show (a.toBitVec <<< (s.toBitVec.smod 32).toNat).toNat = _
  rw [hs, BitVec.toNat_shiftLeft, Nat.shiftLeft_eq]
theorem pk_shlN {n : Nat} (s : Int32) (k : Nat) (hs : (s.toBitVec.smod 32).toNat = k) (h : n * 2 ^ k < 2 ^ 32) : nI n <<< s = nI (n * 2 ^ k) := by
  apply Int32.toBitVec_inj.mp
  apply BitVec.eq_of_toNat_eq
  have hn : n < 2 ^ 32 := Nat.lt_of_le_of_lt (Nat.le_mul_of_pos_right n (Nat.two_pow_pos k)) h
  rw [pk_shl _ _ k hs, pk_tn hn, pk_tn h, Nat.mod_eq_of_lt h]
theorem pk_shr (a s : Int32) (k : Nat) (hs : (s.toBitVec.smod 32).toNat = k) : (a >>> s).toInt = a.toInt >>> k := by
  show (a.toBitVec.sshiftRight (s.toBitVec.smod 32).toNat).toInt = _
  rw [hs, BitVec.toInt_sshiftRight]
  rfl
theorem pk_shrN {n : Nat} (h : n < 2 ^ 31) (s : Int32) (k : Nat) (hs : (s.toBitVec.smod 32).toNat = k) : nI n >>> s = nI (n / 2 ^ k) := by
  apply Int32.toInt_inj.mp
  have h2 : n / 2 ^ k ≤ n := Nat.div_le_self _ _
  rw [pk_shr _ _ k hs, nI_toInt h, nI_toInt (by omega), Int.shiftRight_eq_div_pow]
  rfl
theorem pk_ushr (x s : Int32) (k : Nat) (hs : ((s.toUInt32 &&& Int32.toUInt32 31).toBitVec % 32).toNat = k) : (x.toUInt32 >>> (s.toUInt32 &&& Int32.toUInt32 31)).toInt32.toBitVec.toNat = x.toBitVec.toNat / 2 ^ k := by
  have e : (x.toUInt32 >>> (s.toUInt32 &&& Int32.toUInt32 31)).toInt32.toBitVec = x.toBitVec >>> k := by
    rw [← hs]
    exact UInt32.toBitVec_shiftRight _ _
  rw [e, BitVec.toNat_ushiftRight, Nat.shiftRight_eq_div_pow]
theorem pk_ushrN {n : Nat} (hn : n < 2 ^ 32) (s : Int32) (k : Nat) (hs : ((s.toUInt32 &&& Int32.toUInt32 31).toBitVec % 32).toNat = k) : ((nI n).toUInt32 >>> (s.toUInt32 &&& Int32.toUInt32 31)).toInt32 = nI (n / 2 ^ k) := by
  apply Int32.toBitVec_inj.mp
  apply BitVec.eq_of_toNat_eq
  rw [pk_ushr _ s k hs, pk_tn hn, pk_tn (Nat.lt_of_le_of_lt (Nat.div_le_self _ _) hn)]
theorem pk_nb (z : Int32) : narrow .byte (.int z.toInt8.toInt32) = .int z.toInt8.toInt32 := congrArg Value.int (by simp)
theorem pk_ns (z : Int32) : narrow .short (.int z.toInt16.toInt32) = .int z.toInt16.toInt32 := congrArg Value.int (by simp)
theorem pk_fb (r : Int32) : fits .byte (.int r.toInt8.toInt32) = true := by
  have ⟨a, b⟩ := lg_i2b_range r
  have h1 : (-128 : Int32).toInt = -128 := by decide
  have h2 : (127 : Int32).toInt = 127 := by decide
  simp only [fits, Bool.and_eq_true, decide_eq_true_eq, Int32.le_iff_toInt_le, h1, h2]
  omega
theorem pk_fs (r : Int32) : fits .short (.int r.toInt16.toInt32) = true := by
  have ⟨a, b⟩ := lg_i2s_range r
  have h1 : (-32768 : Int32).toInt = -32768 := by decide
  have h2 : (32767 : Int32).toInt = 32767 := by decide
  simp only [fits, Bool.and_eq_true, decide_eq_true_eq, Int32.le_iff_toInt_le, h1, h2]
  omega
theorem pk_charN {q : Nat} (hq : q < 65536) : narrow .char (.int (nI q)) = .int (nI q) ∧ fits .char (.int (nI q)) = true := by
  constructor
  · have e : (nI q).toUInt32.toUInt16.toUInt32.toInt32 = nI q := by
      apply Int32.toBitVec_inj.mp
      apply BitVec.eq_of_toNat_eq
      show (nI q).toUInt32.toUInt16.toUInt32.toNat = q % 2 ^ 32
      rw [UInt16.toNat_toUInt32, UInt32.toNat_toUInt16, show (nI q).toUInt32.toNat = q % 2 ^ 32 from rfl]
      omega
    exact congrArg Value.int e
  · have a : (0 : Int32) ≤ nI q := nI_pos' (by omega)
    have b : nI q ≤ 65535 := nI_le (b := 65535) (by omega) (by decide)
    show (decide ((0 : Int32) ≤ nI q) && decide (nI q ≤ 65535)) = true
    rw [decide_eq_true a, decide_eq_true b]
    rfl
theorem pk_char (x : Int32) : (x.toUInt32 % 65536).toInt32 = nI (x.toBitVec.toNat % 65536) := by
  apply Int32.toBitVec_inj.mp
  apply BitVec.eq_of_toNat_eq
  rw [pk_tn (by omega)]
  show (x.toUInt32 % 65536).toNat = _
  rw [UInt32.toNat_mod]
  rfl
theorem pk_nc (x : Int32) : narrow .char (.int (x.toUInt32 % 65536).toInt32) = .int (x.toUInt32 % 65536).toInt32 := by
  rw [pk_char]
  exact (pk_charN (Nat.mod_lt _ (by decide))).1
theorem pk_fc (x : Int32) : fits .char (.int (x.toUInt32 % 65536).toInt32) = true := by
  rw [pk_char]
  exact (pk_charN (Nat.mod_lt _ (by decide))).2
theorem pk_vb (z : Int32) : vp_nar .byte z.toInt8.toInt32 = z.toInt8.toInt32 := by rw [vp_nar_byte]; simp
theorem pk_vs (z : Int32) : vp_nar .short z.toInt16.toInt32 = z.toInt16.toInt32 := by rw [vp_nar_short]; simp
theorem pk_vc (z : Int32) : vp_nar .char (z.toUInt32 % 65536).toInt32 = (z.toUInt32 % 65536).toInt32 := Value.int.inj (pk_nc z)
theorem pk_lT {n : Nat} (h : n < 2 ^ 63) : (lN n).toInt = (n : Int) := lg_ofNat_toInt h
theorem pk_lLT {a b : Nat} (ha : a < 2 ^ 63) (hb : b < 2 ^ 63) : lN a < lN b ↔ a < b := by
  rw [Int64.lt_iff_toInt_lt, pk_lT ha, pk_lT hb]; omega
theorem pk_lLE {a b : Nat} (ha : a < 2 ^ 63) (hb : b < 2 ^ 63) : lN a ≤ lN b ↔ a ≤ b := by
  rw [Int64.le_iff_toInt_le, pk_lT ha, pk_lT hb]; omega
theorem pk_lEQ {a b : Nat} (ha : a < 2 ^ 63) (hb : b < 2 ^ 63) : lN a = lN b ↔ a = b := by
  rw [← Int64.toInt_inj, pk_lT ha, pk_lT hb]; omega
theorem pk_lOf {x : Int64} (h : ¬ x < 0) : ∃ k : Nat, k < 2 ^ 63 ∧ x = lN k := by
  rw [Int64.lt_iff_toInt_lt] at h
  have h0 : (0 : Int64).toInt = 0 := by decide
  have hx := Int64.toInt_lt x
  refine ⟨x.toInt.toNat, by omega, Int64.toInt_inj.mp ?_⟩
  rw [pk_lT (by omega)]
  omega
theorem pk_lDiv {a b : Nat} (ha : a < 2 ^ 63) (h0 : 0 < b) (hb : b < 2 ^ 63) : lN a / lN b = lN (a / b) := by
  apply Int64.toInt_inj.mp
  rw [lg_ldiv_nonneg (by rw [pk_lT ha]; omega) (by rw [pk_lT hb]; omega), pk_lT ha, pk_lT hb, pk_lT (Nat.lt_of_le_of_lt (Nat.div_le_self a b) ha)]
  rfl
theorem pk_lRem {a b : Nat} (ha : a < 2 ^ 63) (h0 : 0 < b) (hb : b < 2 ^ 63) : lN a - lN a / lN b * lN b = lN (a % b) := by
  rw [pk_lDiv ha h0 hb, lN_mul, lN_sub (Nat.div_mul_le_self a b)]
  exact congrArg lN (by have := Nat.div_add_mod' a b; omega)
theorem pk_loop {σ : Type} (W : Nat → Nat → σ → Prop) (I : Nat → σ → Prop) (e i0 : Nat) (s : σ) (hi : i0 ≤ e) (h0 : I i0 s) (hx : ∀ n s, I e s → W (n + 1) e s)
    (hs : ∀ n i s, i < e → I i s → (∀ s', I (i + 1) s' → W n (i + 1) s') → W (n + 1) i s) : ∃ n, W n i0 s :=
  ⟨e + 1, loop_i W I e hx hs (e + 1) i0 s hi (by omega) h0⟩
theorem pk_loopD {σ : Type} (W : Nat → Nat → σ → Prop) (I : Nat → σ → Prop) (hx : ∀ n s, I 0 s → W (n + 1) 0 s)
    (hs : ∀ n i s, I (i + 1) s → (∀ s', I i s' → W n i s') → W (n + 1) (i + 1) s) : ∀ (e : Nat) (s : σ), I e s → W (e + 1) e s := by
  intro e
  induction e with
  | zero => exact fun s h => hx 0 s h
  | succ e ih => exact fun s h => hs (e + 1) e s h (fun s' h' => ih s' h')
theorem lp1 {A1 : Type} (W : Nat → A1 → Prop) (I : A1 → Prop) (μ : A1 → Nat) (hs : ∀ (n : Nat) (a1 : A1), I a1 → (∀ (b1 : A1), I b1 → μ b1 < μ a1 → W n b1) → W (n + 1) a1) (a1 : A1) (h : I a1) : ∃ n, W n a1 :=
  loop_m (σ := A1) (fun n s => W n s) (fun s => I s) (fun s => μ s) (fun n s hI hk => hs n s hI (fun b1 h9 hm => hk b1 h9 hm)) a1 h
theorem lp2 {A1 A2 : Type} (W : Nat → A1 → A2 → Prop) (I : A1 → A2 → Prop) (μ : A1 → A2 → Nat) (hs : ∀ (n : Nat) (a1 : A1) (a2 : A2), I a1 a2 → (∀ (b1 : A1) (b2 : A2), I b1 b2 → μ b1 b2 < μ a1 a2 → W n b1 b2) → W (n + 1) a1 a2) (a1 : A1) (a2 : A2) (h : I a1 a2) : ∃ n, W n a1 a2 :=
  loop_m (σ := A1 × A2) (fun n s => W n s.1 s.2) (fun s => I s.1 s.2) (fun s => μ s.1 s.2) (fun n s hI hk => hs n s.1 s.2 hI (fun b1 b2 h9 hm => hk (b1, b2) h9 hm)) (a1, a2) h
theorem lp3 {A1 A2 A3 : Type} (W : Nat → A1 → A2 → A3 → Prop) (I : A1 → A2 → A3 → Prop) (μ : A1 → A2 → A3 → Nat) (hs : ∀ (n : Nat) (a1 : A1) (a2 : A2) (a3 : A3), I a1 a2 a3 → (∀ (b1 : A1) (b2 : A2) (b3 : A3), I b1 b2 b3 → μ b1 b2 b3 < μ a1 a2 a3 → W n b1 b2 b3) → W (n + 1) a1 a2 a3) (a1 : A1) (a2 : A2) (a3 : A3) (h : I a1 a2 a3) : ∃ n, W n a1 a2 a3 :=
  loop_m (σ := A1 × A2 × A3) (fun n s => W n s.1 s.2.1 s.2.2) (fun s => I s.1 s.2.1 s.2.2) (fun s => μ s.1 s.2.1 s.2.2) (fun n s hI hk => hs n s.1 s.2.1 s.2.2 hI (fun b1 b2 b3 h9 hm => hk (b1, b2, b3) h9 hm)) (a1, a2, a3) h
theorem lp4 {A1 A2 A3 A4 : Type} (W : Nat → A1 → A2 → A3 → A4 → Prop) (I : A1 → A2 → A3 → A4 → Prop) (μ : A1 → A2 → A3 → A4 → Nat) (hs : ∀ (n : Nat) (a1 : A1) (a2 : A2) (a3 : A3) (a4 : A4), I a1 a2 a3 a4 → (∀ (b1 : A1) (b2 : A2) (b3 : A3) (b4 : A4), I b1 b2 b3 b4 → μ b1 b2 b3 b4 < μ a1 a2 a3 a4 → W n b1 b2 b3 b4) → W (n + 1) a1 a2 a3 a4) (a1 : A1) (a2 : A2) (a3 : A3) (a4 : A4) (h : I a1 a2 a3 a4) : ∃ n, W n a1 a2 a3 a4 :=
  loop_m (σ := A1 × A2 × A3 × A4) (fun n s => W n s.1 s.2.1 s.2.2.1 s.2.2.2) (fun s => I s.1 s.2.1 s.2.2.1 s.2.2.2) (fun s => μ s.1 s.2.1 s.2.2.1 s.2.2.2) (fun n s hI hk => hs n s.1 s.2.1 s.2.2.1 s.2.2.2 hI (fun b1 b2 b3 b4 h9 hm => hk (b1, b2, b3, b4) h9 hm)) (a1, a2, a3, a4) h
theorem lp5 {A1 A2 A3 A4 A5 : Type} (W : Nat → A1 → A2 → A3 → A4 → A5 → Prop) (I : A1 → A2 → A3 → A4 → A5 → Prop) (μ : A1 → A2 → A3 → A4 → A5 → Nat) (hs : ∀ (n : Nat) (a1 : A1) (a2 : A2) (a3 : A3) (a4 : A4) (a5 : A5), I a1 a2 a3 a4 a5 → (∀ (b1 : A1) (b2 : A2) (b3 : A3) (b4 : A4) (b5 : A5), I b1 b2 b3 b4 b5 → μ b1 b2 b3 b4 b5 < μ a1 a2 a3 a4 a5 → W n b1 b2 b3 b4 b5) → W (n + 1) a1 a2 a3 a4 a5) (a1 : A1) (a2 : A2) (a3 : A3) (a4 : A4) (a5 : A5) (h : I a1 a2 a3 a4 a5) : ∃ n, W n a1 a2 a3 a4 a5 :=
  loop_m (σ := A1 × A2 × A3 × A4 × A5) (fun n s => W n s.1 s.2.1 s.2.2.1 s.2.2.2.1 s.2.2.2.2) (fun s => I s.1 s.2.1 s.2.2.1 s.2.2.2.1 s.2.2.2.2) (fun s => μ s.1 s.2.1 s.2.2.1 s.2.2.2.1 s.2.2.2.2) (fun n s hI hk => hs n s.1 s.2.1 s.2.2.1 s.2.2.2.1 s.2.2.2.2 hI (fun b1 b2 b3 b4 b5 h9 hm => hk (b1, b2, b3, b4, b5) h9 hm)) (a1, a2, a3, a4, a5) h
theorem lp6 {A1 A2 A3 A4 A5 A6 : Type} (W : Nat → A1 → A2 → A3 → A4 → A5 → A6 → Prop) (I : A1 → A2 → A3 → A4 → A5 → A6 → Prop) (μ : A1 → A2 → A3 → A4 → A5 → A6 → Nat) (hs : ∀ (n : Nat) (a1 : A1) (a2 : A2) (a3 : A3) (a4 : A4) (a5 : A5) (a6 : A6), I a1 a2 a3 a4 a5 a6 → (∀ (b1 : A1) (b2 : A2) (b3 : A3) (b4 : A4) (b5 : A5) (b6 : A6), I b1 b2 b3 b4 b5 b6 → μ b1 b2 b3 b4 b5 b6 < μ a1 a2 a3 a4 a5 a6 → W n b1 b2 b3 b4 b5 b6) → W (n + 1) a1 a2 a3 a4 a5 a6) (a1 : A1) (a2 : A2) (a3 : A3) (a4 : A4) (a5 : A5) (a6 : A6) (h : I a1 a2 a3 a4 a5 a6) : ∃ n, W n a1 a2 a3 a4 a5 a6 :=
  loop_m (σ := A1 × A2 × A3 × A4 × A5 × A6) (fun n s => W n s.1 s.2.1 s.2.2.1 s.2.2.2.1 s.2.2.2.2.1 s.2.2.2.2.2) (fun s => I s.1 s.2.1 s.2.2.1 s.2.2.2.1 s.2.2.2.2.1 s.2.2.2.2.2) (fun s => μ s.1 s.2.1 s.2.2.1 s.2.2.2.1 s.2.2.2.2.1 s.2.2.2.2.2) (fun n s hI hk => hs n s.1 s.2.1 s.2.2.1 s.2.2.2.1 s.2.2.2.2.1 s.2.2.2.2.2 hI (fun b1 b2 b3 b4 b5 b6 h9 hm => hk (b1, b2, b3, b4, b5, b6) h9 hm)) (a1, a2, a3, a4, a5, a6) h
theorem lp7 {A1 A2 A3 A4 A5 A6 A7 : Type} (W : Nat → A1 → A2 → A3 → A4 → A5 → A6 → A7 → Prop) (I : A1 → A2 → A3 → A4 → A5 → A6 → A7 → Prop) (μ : A1 → A2 → A3 → A4 → A5 → A6 → A7 → Nat) (hs : ∀ (n : Nat) (a1 : A1) (a2 : A2) (a3 : A3) (a4 : A4) (a5 : A5) (a6 : A6) (a7 : A7), I a1 a2 a3 a4 a5 a6 a7 → (∀ (b1 : A1) (b2 : A2) (b3 : A3) (b4 : A4) (b5 : A5) (b6 : A6) (b7 : A7), I b1 b2 b3 b4 b5 b6 b7 → μ b1 b2 b3 b4 b5 b6 b7 < μ a1 a2 a3 a4 a5 a6 a7 → W n b1 b2 b3 b4 b5 b6 b7) → W (n + 1) a1 a2 a3 a4 a5 a6 a7) (a1 : A1) (a2 : A2) (a3 : A3) (a4 : A4) (a5 : A5) (a6 : A6) (a7 : A7) (h : I a1 a2 a3 a4 a5 a6 a7) : ∃ n, W n a1 a2 a3 a4 a5 a6 a7 :=
  loop_m (σ := A1 × A2 × A3 × A4 × A5 × A6 × A7) (fun n s => W n s.1 s.2.1 s.2.2.1 s.2.2.2.1 s.2.2.2.2.1 s.2.2.2.2.2.1 s.2.2.2.2.2.2) (fun s => I s.1 s.2.1 s.2.2.1 s.2.2.2.1 s.2.2.2.2.1 s.2.2.2.2.2.1 s.2.2.2.2.2.2) (fun s => μ s.1 s.2.1 s.2.2.1 s.2.2.2.1 s.2.2.2.2.1 s.2.2.2.2.2.1 s.2.2.2.2.2.2) (fun n s hI hk => hs n s.1 s.2.1 s.2.2.1 s.2.2.2.1 s.2.2.2.2.1 s.2.2.2.2.2.1 s.2.2.2.2.2.2 hI (fun b1 b2 b3 b4 b5 b6 b7 h9 hm => hk (b1, b2, b3, b4, b5, b6, b7) h9 hm)) (a1, a2, a3, a4, a5, a6, a7) h
theorem lp8 {A1 A2 A3 A4 A5 A6 A7 A8 : Type} (W : Nat → A1 → A2 → A3 → A4 → A5 → A6 → A7 → A8 → Prop) (I : A1 → A2 → A3 → A4 → A5 → A6 → A7 → A8 → Prop) (μ : A1 → A2 → A3 → A4 → A5 → A6 → A7 → A8 → Nat) (hs : ∀ (n : Nat) (a1 : A1) (a2 : A2) (a3 : A3) (a4 : A4) (a5 : A5) (a6 : A6) (a7 : A7) (a8 : A8), I a1 a2 a3 a4 a5 a6 a7 a8 → (∀ (b1 : A1) (b2 : A2) (b3 : A3) (b4 : A4) (b5 : A5) (b6 : A6) (b7 : A7) (b8 : A8), I b1 b2 b3 b4 b5 b6 b7 b8 → μ b1 b2 b3 b4 b5 b6 b7 b8 < μ a1 a2 a3 a4 a5 a6 a7 a8 → W n b1 b2 b3 b4 b5 b6 b7 b8) → W (n + 1) a1 a2 a3 a4 a5 a6 a7 a8) (a1 : A1) (a2 : A2) (a3 : A3) (a4 : A4) (a5 : A5) (a6 : A6) (a7 : A7) (a8 : A8) (h : I a1 a2 a3 a4 a5 a6 a7 a8) : ∃ n, W n a1 a2 a3 a4 a5 a6 a7 a8 :=
  loop_m (σ := A1 × A2 × A3 × A4 × A5 × A6 × A7 × A8) (fun n s => W n s.1 s.2.1 s.2.2.1 s.2.2.2.1 s.2.2.2.2.1 s.2.2.2.2.2.1 s.2.2.2.2.2.2.1 s.2.2.2.2.2.2.2) (fun s => I s.1 s.2.1 s.2.2.1 s.2.2.2.1 s.2.2.2.2.1 s.2.2.2.2.2.1 s.2.2.2.2.2.2.1 s.2.2.2.2.2.2.2) (fun s => μ s.1 s.2.1 s.2.2.1 s.2.2.2.1 s.2.2.2.2.1 s.2.2.2.2.2.1 s.2.2.2.2.2.2.1 s.2.2.2.2.2.2.2) (fun n s hI hk => hs n s.1 s.2.1 s.2.2.1 s.2.2.2.1 s.2.2.2.2.1 s.2.2.2.2.2.1 s.2.2.2.2.2.2.1 s.2.2.2.2.2.2.2 hI (fun b1 b2 b3 b4 b5 b6 b7 b8 h9 hm => hk (b1, b2, b3, b4, b5, b6, b7, b8) h9 hm)) (a1, a2, a3, a4, a5, a6, a7, a8) h
theorem lp9 {A1 A2 A3 A4 A5 A6 A7 A8 A9 : Type} (W : Nat → A1 → A2 → A3 → A4 → A5 → A6 → A7 → A8 → A9 → Prop) (I : A1 → A2 → A3 → A4 → A5 → A6 → A7 → A8 → A9 → Prop) (μ : A1 → A2 → A3 → A4 → A5 → A6 → A7 → A8 → A9 → Nat) (hs : ∀ (n : Nat) (a1 : A1) (a2 : A2) (a3 : A3) (a4 : A4) (a5 : A5) (a6 : A6) (a7 : A7) (a8 : A8) (a9 : A9), I a1 a2 a3 a4 a5 a6 a7 a8 a9 → (∀ (b1 : A1) (b2 : A2) (b3 : A3) (b4 : A4) (b5 : A5) (b6 : A6) (b7 : A7) (b8 : A8) (b9 : A9), I b1 b2 b3 b4 b5 b6 b7 b8 b9 → μ b1 b2 b3 b4 b5 b6 b7 b8 b9 < μ a1 a2 a3 a4 a5 a6 a7 a8 a9 → W n b1 b2 b3 b4 b5 b6 b7 b8 b9) → W (n + 1) a1 a2 a3 a4 a5 a6 a7 a8 a9) (a1 : A1) (a2 : A2) (a3 : A3) (a4 : A4) (a5 : A5) (a6 : A6) (a7 : A7) (a8 : A8) (a9 : A9) (h : I a1 a2 a3 a4 a5 a6 a7 a8 a9) : ∃ n, W n a1 a2 a3 a4 a5 a6 a7 a8 a9 :=
  loop_m (σ := A1 × A2 × A3 × A4 × A5 × A6 × A7 × A8 × A9) (fun n s => W n s.1 s.2.1 s.2.2.1 s.2.2.2.1 s.2.2.2.2.1 s.2.2.2.2.2.1 s.2.2.2.2.2.2.1 s.2.2.2.2.2.2.2.1 s.2.2.2.2.2.2.2.2) (fun s => I s.1 s.2.1 s.2.2.1 s.2.2.2.1 s.2.2.2.2.1 s.2.2.2.2.2.1 s.2.2.2.2.2.2.1 s.2.2.2.2.2.2.2.1 s.2.2.2.2.2.2.2.2) (fun s => μ s.1 s.2.1 s.2.2.1 s.2.2.2.1 s.2.2.2.2.1 s.2.2.2.2.2.1 s.2.2.2.2.2.2.1 s.2.2.2.2.2.2.2.1 s.2.2.2.2.2.2.2.2) (fun n s hI hk => hs n s.1 s.2.1 s.2.2.1 s.2.2.2.1 s.2.2.2.2.1 s.2.2.2.2.2.1 s.2.2.2.2.2.2.1 s.2.2.2.2.2.2.2.1 s.2.2.2.2.2.2.2.2 hI (fun b1 b2 b3 b4 b5 b6 b7 b8 b9 h9 hm => hk (b1, b2, b3, b4, b5, b6, b7, b8, b9) h9 hm)) (a1, a2, a3, a4, a5, a6, a7, a8, a9) h
theorem lp10 {A1 A2 A3 A4 A5 A6 A7 A8 A9 A10 : Type} (W : Nat → A1 → A2 → A3 → A4 → A5 → A6 → A7 → A8 → A9 → A10 → Prop) (I : A1 → A2 → A3 → A4 → A5 → A6 → A7 → A8 → A9 → A10 → Prop) (μ : A1 → A2 → A3 → A4 → A5 → A6 → A7 → A8 → A9 → A10 → Nat) (hs : ∀ (n : Nat) (a1 : A1) (a2 : A2) (a3 : A3) (a4 : A4) (a5 : A5) (a6 : A6) (a7 : A7) (a8 : A8) (a9 : A9) (a10 : A10), I a1 a2 a3 a4 a5 a6 a7 a8 a9 a10 → (∀ (b1 : A1) (b2 : A2) (b3 : A3) (b4 : A4) (b5 : A5) (b6 : A6) (b7 : A7) (b8 : A8) (b9 : A9) (b10 : A10), I b1 b2 b3 b4 b5 b6 b7 b8 b9 b10 → μ b1 b2 b3 b4 b5 b6 b7 b8 b9 b10 < μ a1 a2 a3 a4 a5 a6 a7 a8 a9 a10 → W n b1 b2 b3 b4 b5 b6 b7 b8 b9 b10) → W (n + 1) a1 a2 a3 a4 a5 a6 a7 a8 a9 a10) (a1 : A1) (a2 : A2) (a3 : A3) (a4 : A4) (a5 : A5) (a6 : A6) (a7 : A7) (a8 : A8) (a9 : A9) (a10 : A10) (h : I a1 a2 a3 a4 a5 a6 a7 a8 a9 a10) : ∃ n, W n a1 a2 a3 a4 a5 a6 a7 a8 a9 a10 :=
  loop_m (σ := A1 × A2 × A3 × A4 × A5 × A6 × A7 × A8 × A9 × A10) (fun n s => W n s.1 s.2.1 s.2.2.1 s.2.2.2.1 s.2.2.2.2.1 s.2.2.2.2.2.1 s.2.2.2.2.2.2.1 s.2.2.2.2.2.2.2.1 s.2.2.2.2.2.2.2.2.1 s.2.2.2.2.2.2.2.2.2) (fun s => I s.1 s.2.1 s.2.2.1 s.2.2.2.1 s.2.2.2.2.1 s.2.2.2.2.2.1 s.2.2.2.2.2.2.1 s.2.2.2.2.2.2.2.1 s.2.2.2.2.2.2.2.2.1 s.2.2.2.2.2.2.2.2.2) (fun s => μ s.1 s.2.1 s.2.2.1 s.2.2.2.1 s.2.2.2.2.1 s.2.2.2.2.2.1 s.2.2.2.2.2.2.1 s.2.2.2.2.2.2.2.1 s.2.2.2.2.2.2.2.2.1 s.2.2.2.2.2.2.2.2.2) (fun n s hI hk => hs n s.1 s.2.1 s.2.2.1 s.2.2.2.1 s.2.2.2.2.1 s.2.2.2.2.2.1 s.2.2.2.2.2.2.1 s.2.2.2.2.2.2.2.1 s.2.2.2.2.2.2.2.2.1 s.2.2.2.2.2.2.2.2.2 hI (fun b1 b2 b3 b4 b5 b6 b7 b8 b9 b10 h9 hm => hk (b1, b2, b3, b4, b5, b6, b7, b8, b9, b10) h9 hm)) (a1, a2, a3, a4, a5, a6, a7, a8, a9, a10) h
theorem lp11 {A1 A2 A3 A4 A5 A6 A7 A8 A9 A10 A11 : Type} (W : Nat → A1 → A2 → A3 → A4 → A5 → A6 → A7 → A8 → A9 → A10 → A11 → Prop) (I : A1 → A2 → A3 → A4 → A5 → A6 → A7 → A8 → A9 → A10 → A11 → Prop) (μ : A1 → A2 → A3 → A4 → A5 → A6 → A7 → A8 → A9 → A10 → A11 → Nat) (hs : ∀ (n : Nat) (a1 : A1) (a2 : A2) (a3 : A3) (a4 : A4) (a5 : A5) (a6 : A6) (a7 : A7) (a8 : A8) (a9 : A9) (a10 : A10) (a11 : A11), I a1 a2 a3 a4 a5 a6 a7 a8 a9 a10 a11 → (∀ (b1 : A1) (b2 : A2) (b3 : A3) (b4 : A4) (b5 : A5) (b6 : A6) (b7 : A7) (b8 : A8) (b9 : A9) (b10 : A10) (b11 : A11), I b1 b2 b3 b4 b5 b6 b7 b8 b9 b10 b11 → μ b1 b2 b3 b4 b5 b6 b7 b8 b9 b10 b11 < μ a1 a2 a3 a4 a5 a6 a7 a8 a9 a10 a11 → W n b1 b2 b3 b4 b5 b6 b7 b8 b9 b10 b11) → W (n + 1) a1 a2 a3 a4 a5 a6 a7 a8 a9 a10 a11) (a1 : A1) (a2 : A2) (a3 : A3) (a4 : A4) (a5 : A5) (a6 : A6) (a7 : A7) (a8 : A8) (a9 : A9) (a10 : A10) (a11 : A11) (h : I a1 a2 a3 a4 a5 a6 a7 a8 a9 a10 a11) : ∃ n, W n a1 a2 a3 a4 a5 a6 a7 a8 a9 a10 a11 :=
  loop_m (σ := A1 × A2 × A3 × A4 × A5 × A6 × A7 × A8 × A9 × A10 × A11) (fun n s => W n s.1 s.2.1 s.2.2.1 s.2.2.2.1 s.2.2.2.2.1 s.2.2.2.2.2.1 s.2.2.2.2.2.2.1 s.2.2.2.2.2.2.2.1 s.2.2.2.2.2.2.2.2.1 s.2.2.2.2.2.2.2.2.2.1 s.2.2.2.2.2.2.2.2.2.2) (fun s => I s.1 s.2.1 s.2.2.1 s.2.2.2.1 s.2.2.2.2.1 s.2.2.2.2.2.1 s.2.2.2.2.2.2.1 s.2.2.2.2.2.2.2.1 s.2.2.2.2.2.2.2.2.1 s.2.2.2.2.2.2.2.2.2.1 s.2.2.2.2.2.2.2.2.2.2) (fun s => μ s.1 s.2.1 s.2.2.1 s.2.2.2.1 s.2.2.2.2.1 s.2.2.2.2.2.1 s.2.2.2.2.2.2.1 s.2.2.2.2.2.2.2.1 s.2.2.2.2.2.2.2.2.1 s.2.2.2.2.2.2.2.2.2.1 s.2.2.2.2.2.2.2.2.2.2) (fun n s hI hk => hs n s.1 s.2.1 s.2.2.1 s.2.2.2.1 s.2.2.2.2.1 s.2.2.2.2.2.1 s.2.2.2.2.2.2.1 s.2.2.2.2.2.2.2.1 s.2.2.2.2.2.2.2.2.1 s.2.2.2.2.2.2.2.2.2.1 s.2.2.2.2.2.2.2.2.2.2 hI (fun b1 b2 b3 b4 b5 b6 b7 b8 b9 b10 b11 h9 hm => hk (b1, b2, b3, b4, b5, b6, b7, b8, b9, b10, b11) h9 hm)) (a1, a2, a3, a4, a5, a6, a7, a8, a9, a10, a11) h
theorem lp12 {A1 A2 A3 A4 A5 A6 A7 A8 A9 A10 A11 A12 : Type} (W : Nat → A1 → A2 → A3 → A4 → A5 → A6 → A7 → A8 → A9 → A10 → A11 → A12 → Prop) (I : A1 → A2 → A3 → A4 → A5 → A6 → A7 → A8 → A9 → A10 → A11 → A12 → Prop) (μ : A1 → A2 → A3 → A4 → A5 → A6 → A7 → A8 → A9 → A10 → A11 → A12 → Nat) (hs : ∀ (n : Nat) (a1 : A1) (a2 : A2) (a3 : A3) (a4 : A4) (a5 : A5) (a6 : A6) (a7 : A7) (a8 : A8) (a9 : A9) (a10 : A10) (a11 : A11) (a12 : A12), I a1 a2 a3 a4 a5 a6 a7 a8 a9 a10 a11 a12 → (∀ (b1 : A1) (b2 : A2) (b3 : A3) (b4 : A4) (b5 : A5) (b6 : A6) (b7 : A7) (b8 : A8) (b9 : A9) (b10 : A10) (b11 : A11) (b12 : A12), I b1 b2 b3 b4 b5 b6 b7 b8 b9 b10 b11 b12 → μ b1 b2 b3 b4 b5 b6 b7 b8 b9 b10 b11 b12 < μ a1 a2 a3 a4 a5 a6 a7 a8 a9 a10 a11 a12 → W n b1 b2 b3 b4 b5 b6 b7 b8 b9 b10 b11 b12) → W (n + 1) a1 a2 a3 a4 a5 a6 a7 a8 a9 a10 a11 a12) (a1 : A1) (a2 : A2) (a3 : A3) (a4 : A4) (a5 : A5) (a6 : A6) (a7 : A7) (a8 : A8) (a9 : A9) (a10 : A10) (a11 : A11) (a12 : A12) (h : I a1 a2 a3 a4 a5 a6 a7 a8 a9 a10 a11 a12) : ∃ n, W n a1 a2 a3 a4 a5 a6 a7 a8 a9 a10 a11 a12 :=
  loop_m (σ := A1 × A2 × A3 × A4 × A5 × A6 × A7 × A8 × A9 × A10 × A11 × A12) (fun n s => W n s.1 s.2.1 s.2.2.1 s.2.2.2.1 s.2.2.2.2.1 s.2.2.2.2.2.1 s.2.2.2.2.2.2.1 s.2.2.2.2.2.2.2.1 s.2.2.2.2.2.2.2.2.1 s.2.2.2.2.2.2.2.2.2.1 s.2.2.2.2.2.2.2.2.2.2.1 s.2.2.2.2.2.2.2.2.2.2.2) (fun s => I s.1 s.2.1 s.2.2.1 s.2.2.2.1 s.2.2.2.2.1 s.2.2.2.2.2.1 s.2.2.2.2.2.2.1 s.2.2.2.2.2.2.2.1 s.2.2.2.2.2.2.2.2.1 s.2.2.2.2.2.2.2.2.2.1 s.2.2.2.2.2.2.2.2.2.2.1 s.2.2.2.2.2.2.2.2.2.2.2) (fun s => μ s.1 s.2.1 s.2.2.1 s.2.2.2.1 s.2.2.2.2.1 s.2.2.2.2.2.1 s.2.2.2.2.2.2.1 s.2.2.2.2.2.2.2.1 s.2.2.2.2.2.2.2.2.1 s.2.2.2.2.2.2.2.2.2.1 s.2.2.2.2.2.2.2.2.2.2.1 s.2.2.2.2.2.2.2.2.2.2.2) (fun n s hI hk => hs n s.1 s.2.1 s.2.2.1 s.2.2.2.1 s.2.2.2.2.1 s.2.2.2.2.2.1 s.2.2.2.2.2.2.1 s.2.2.2.2.2.2.2.1 s.2.2.2.2.2.2.2.2.1 s.2.2.2.2.2.2.2.2.2.1 s.2.2.2.2.2.2.2.2.2.2.1 s.2.2.2.2.2.2.2.2.2.2.2 hI (fun b1 b2 b3 b4 b5 b6 b7 b8 b9 b10 b11 b12 h9 hm => hk (b1, b2, b3, b4, b5, b6, b7, b8, b9, b10, b11, b12) h9 hm)) (a1, a2, a3, a4, a5, a6, a7, a8, a9, a10, a11, a12) h
theorem lp13 {A1 A2 A3 A4 A5 A6 A7 A8 A9 A10 A11 A12 A13 : Type} (W : Nat → A1 → A2 → A3 → A4 → A5 → A6 → A7 → A8 → A9 → A10 → A11 → A12 → A13 → Prop) (I : A1 → A2 → A3 → A4 → A5 → A6 → A7 → A8 → A9 → A10 → A11 → A12 → A13 → Prop) (μ : A1 → A2 → A3 → A4 → A5 → A6 → A7 → A8 → A9 → A10 → A11 → A12 → A13 → Nat) (hs : ∀ (n : Nat) (a1 : A1) (a2 : A2) (a3 : A3) (a4 : A4) (a5 : A5) (a6 : A6) (a7 : A7) (a8 : A8) (a9 : A9) (a10 : A10) (a11 : A11) (a12 : A12) (a13 : A13), I a1 a2 a3 a4 a5 a6 a7 a8 a9 a10 a11 a12 a13 → (∀ (b1 : A1) (b2 : A2) (b3 : A3) (b4 : A4) (b5 : A5) (b6 : A6) (b7 : A7) (b8 : A8) (b9 : A9) (b10 : A10) (b11 : A11) (b12 : A12) (b13 : A13), I b1 b2 b3 b4 b5 b6 b7 b8 b9 b10 b11 b12 b13 → μ b1 b2 b3 b4 b5 b6 b7 b8 b9 b10 b11 b12 b13 < μ a1 a2 a3 a4 a5 a6 a7 a8 a9 a10 a11 a12 a13 → W n b1 b2 b3 b4 b5 b6 b7 b8 b9 b10 b11 b12 b13) → W (n + 1) a1 a2 a3 a4 a5 a6 a7 a8 a9 a10 a11 a12 a13) (a1 : A1) (a2 : A2) (a3 : A3) (a4 : A4) (a5 : A5) (a6 : A6) (a7 : A7) (a8 : A8) (a9 : A9) (a10 : A10) (a11 : A11) (a12 : A12) (a13 : A13) (h : I a1 a2 a3 a4 a5 a6 a7 a8 a9 a10 a11 a12 a13) : ∃ n, W n a1 a2 a3 a4 a5 a6 a7 a8 a9 a10 a11 a12 a13 :=
  loop_m (σ := A1 × A2 × A3 × A4 × A5 × A6 × A7 × A8 × A9 × A10 × A11 × A12 × A13) (fun n s => W n s.1 s.2.1 s.2.2.1 s.2.2.2.1 s.2.2.2.2.1 s.2.2.2.2.2.1 s.2.2.2.2.2.2.1 s.2.2.2.2.2.2.2.1 s.2.2.2.2.2.2.2.2.1 s.2.2.2.2.2.2.2.2.2.1 s.2.2.2.2.2.2.2.2.2.2.1 s.2.2.2.2.2.2.2.2.2.2.2.1 s.2.2.2.2.2.2.2.2.2.2.2.2) (fun s => I s.1 s.2.1 s.2.2.1 s.2.2.2.1 s.2.2.2.2.1 s.2.2.2.2.2.1 s.2.2.2.2.2.2.1 s.2.2.2.2.2.2.2.1 s.2.2.2.2.2.2.2.2.1 s.2.2.2.2.2.2.2.2.2.1 s.2.2.2.2.2.2.2.2.2.2.1 s.2.2.2.2.2.2.2.2.2.2.2.1 s.2.2.2.2.2.2.2.2.2.2.2.2) (fun s => μ s.1 s.2.1 s.2.2.1 s.2.2.2.1 s.2.2.2.2.1 s.2.2.2.2.2.1 s.2.2.2.2.2.2.1 s.2.2.2.2.2.2.2.1 s.2.2.2.2.2.2.2.2.1 s.2.2.2.2.2.2.2.2.2.1 s.2.2.2.2.2.2.2.2.2.2.1 s.2.2.2.2.2.2.2.2.2.2.2.1 s.2.2.2.2.2.2.2.2.2.2.2.2) (fun n s hI hk => hs n s.1 s.2.1 s.2.2.1 s.2.2.2.1 s.2.2.2.2.1 s.2.2.2.2.2.1 s.2.2.2.2.2.2.1 s.2.2.2.2.2.2.2.1 s.2.2.2.2.2.2.2.2.1 s.2.2.2.2.2.2.2.2.2.1 s.2.2.2.2.2.2.2.2.2.2.1 s.2.2.2.2.2.2.2.2.2.2.2.1 s.2.2.2.2.2.2.2.2.2.2.2.2 hI (fun b1 b2 b3 b4 b5 b6 b7 b8 b9 b10 b11 b12 b13 h9 hm => hk (b1, b2, b3, b4, b5, b6, b7, b8, b9, b10, b11, b12, b13) h9 hm)) (a1, a2, a3, a4, a5, a6, a7, a8, a9, a10, a11, a12, a13) h
theorem lp14 {A1 A2 A3 A4 A5 A6 A7 A8 A9 A10 A11 A12 A13 A14 : Type} (W : Nat → A1 → A2 → A3 → A4 → A5 → A6 → A7 → A8 → A9 → A10 → A11 → A12 → A13 → A14 → Prop) (I : A1 → A2 → A3 → A4 → A5 → A6 → A7 → A8 → A9 → A10 → A11 → A12 → A13 → A14 → Prop) (μ : A1 → A2 → A3 → A4 → A5 → A6 → A7 → A8 → A9 → A10 → A11 → A12 → A13 → A14 → Nat) (hs : ∀ (n : Nat) (a1 : A1) (a2 : A2) (a3 : A3) (a4 : A4) (a5 : A5) (a6 : A6) (a7 : A7) (a8 : A8) (a9 : A9) (a10 : A10) (a11 : A11) (a12 : A12) (a13 : A13) (a14 : A14), I a1 a2 a3 a4 a5 a6 a7 a8 a9 a10 a11 a12 a13 a14 → (∀ (b1 : A1) (b2 : A2) (b3 : A3) (b4 : A4) (b5 : A5) (b6 : A6) (b7 : A7) (b8 : A8) (b9 : A9) (b10 : A10) (b11 : A11) (b12 : A12) (b13 : A13) (b14 : A14), I b1 b2 b3 b4 b5 b6 b7 b8 b9 b10 b11 b12 b13 b14 → μ b1 b2 b3 b4 b5 b6 b7 b8 b9 b10 b11 b12 b13 b14 < μ a1 a2 a3 a4 a5 a6 a7 a8 a9 a10 a11 a12 a13 a14 → W n b1 b2 b3 b4 b5 b6 b7 b8 b9 b10 b11 b12 b13 b14) → W (n + 1) a1 a2 a3 a4 a5 a6 a7 a8 a9 a10 a11 a12 a13 a14) (a1 : A1) (a2 : A2) (a3 : A3) (a4 : A4) (a5 : A5) (a6 : A6) (a7 : A7) (a8 : A8) (a9 : A9) (a10 : A10) (a11 : A11) (a12 : A12) (a13 : A13) (a14 : A14) (h : I a1 a2 a3 a4 a5 a6 a7 a8 a9 a10 a11 a12 a13 a14) : ∃ n, W n a1 a2 a3 a4 a5 a6 a7 a8 a9 a10 a11 a12 a13 a14 :=
  loop_m (σ := A1 × A2 × A3 × A4 × A5 × A6 × A7 × A8 × A9 × A10 × A11 × A12 × A13 × A14) (fun n s => W n s.1 s.2.1 s.2.2.1 s.2.2.2.1 s.2.2.2.2.1 s.2.2.2.2.2.1 s.2.2.2.2.2.2.1 s.2.2.2.2.2.2.2.1 s.2.2.2.2.2.2.2.2.1 s.2.2.2.2.2.2.2.2.2.1 s.2.2.2.2.2.2.2.2.2.2.1 s.2.2.2.2.2.2.2.2.2.2.2.1 s.2.2.2.2.2.2.2.2.2.2.2.2.1 s.2.2.2.2.2.2.2.2.2.2.2.2.2) (fun s => I s.1 s.2.1 s.2.2.1 s.2.2.2.1 s.2.2.2.2.1 s.2.2.2.2.2.1 s.2.2.2.2.2.2.1 s.2.2.2.2.2.2.2.1 s.2.2.2.2.2.2.2.2.1 s.2.2.2.2.2.2.2.2.2.1 s.2.2.2.2.2.2.2.2.2.2.1 s.2.2.2.2.2.2.2.2.2.2.2.1 s.2.2.2.2.2.2.2.2.2.2.2.2.1 s.2.2.2.2.2.2.2.2.2.2.2.2.2) (fun s => μ s.1 s.2.1 s.2.2.1 s.2.2.2.1 s.2.2.2.2.1 s.2.2.2.2.2.1 s.2.2.2.2.2.2.1 s.2.2.2.2.2.2.2.1 s.2.2.2.2.2.2.2.2.1 s.2.2.2.2.2.2.2.2.2.1 s.2.2.2.2.2.2.2.2.2.2.1 s.2.2.2.2.2.2.2.2.2.2.2.1 s.2.2.2.2.2.2.2.2.2.2.2.2.1 s.2.2.2.2.2.2.2.2.2.2.2.2.2) (fun n s hI hk => hs n s.1 s.2.1 s.2.2.1 s.2.2.2.1 s.2.2.2.2.1 s.2.2.2.2.2.1 s.2.2.2.2.2.2.1 s.2.2.2.2.2.2.2.1 s.2.2.2.2.2.2.2.2.1 s.2.2.2.2.2.2.2.2.2.1 s.2.2.2.2.2.2.2.2.2.2.1 s.2.2.2.2.2.2.2.2.2.2.2.1 s.2.2.2.2.2.2.2.2.2.2.2.2.1 s.2.2.2.2.2.2.2.2.2.2.2.2.2 hI (fun b1 b2 b3 b4 b5 b6 b7 b8 b9 b10 b11 b12 b13 b14 h9 hm => hk (b1, b2, b3, b4, b5, b6, b7, b8, b9, b10, b11, b12, b13, b14) h9 hm)) (a1, a2, a3, a4, a5, a6, a7, a8, a9, a10, a11, a12, a13, a14) h
theorem lp15 {A1 A2 A3 A4 A5 A6 A7 A8 A9 A10 A11 A12 A13 A14 A15 : Type} (W : Nat → A1 → A2 → A3 → A4 → A5 → A6 → A7 → A8 → A9 → A10 → A11 → A12 → A13 → A14 → A15 → Prop) (I : A1 → A2 → A3 → A4 → A5 → A6 → A7 → A8 → A9 → A10 → A11 → A12 → A13 → A14 → A15 → Prop) (μ : A1 → A2 → A3 → A4 → A5 → A6 → A7 → A8 → A9 → A10 → A11 → A12 → A13 → A14 → A15 → Nat) (hs : ∀ (n : Nat) (a1 : A1) (a2 : A2) (a3 : A3) (a4 : A4) (a5 : A5) (a6 : A6) (a7 : A7) (a8 : A8) (a9 : A9) (a10 : A10) (a11 : A11) (a12 : A12) (a13 : A13) (a14 : A14) (a15 : A15), I a1 a2 a3 a4 a5 a6 a7 a8 a9 a10 a11 a12 a13 a14 a15 → (∀ (b1 : A1) (b2 : A2) (b3 : A3) (b4 : A4) (b5 : A5) (b6 : A6) (b7 : A7) (b8 : A8) (b9 : A9) (b10 : A10) (b11 : A11) (b12 : A12) (b13 : A13) (b14 : A14) (b15 : A15), I b1 b2 b3 b4 b5 b6 b7 b8 b9 b10 b11 b12 b13 b14 b15 → μ b1 b2 b3 b4 b5 b6 b7 b8 b9 b10 b11 b12 b13 b14 b15 < μ a1 a2 a3 a4 a5 a6 a7 a8 a9 a10 a11 a12 a13 a14 a15 → W n b1 b2 b3 b4 b5 b6 b7 b8 b9 b10 b11 b12 b13 b14 b15) → W (n + 1) a1 a2 a3 a4 a5 a6 a7 a8 a9 a10 a11 a12 a13 a14 a15) (a1 : A1) (a2 : A2) (a3 : A3) (a4 : A4) (a5 : A5) (a6 : A6) (a7 : A7) (a8 : A8) (a9 : A9) (a10 : A10) (a11 : A11) (a12 : A12) (a13 : A13) (a14 : A14) (a15 : A15) (h : I a1 a2 a3 a4 a5 a6 a7 a8 a9 a10 a11 a12 a13 a14 a15) : ∃ n, W n a1 a2 a3 a4 a5 a6 a7 a8 a9 a10 a11 a12 a13 a14 a15 :=
  loop_m (σ := A1 × A2 × A3 × A4 × A5 × A6 × A7 × A8 × A9 × A10 × A11 × A12 × A13 × A14 × A15) (fun n s => W n s.1 s.2.1 s.2.2.1 s.2.2.2.1 s.2.2.2.2.1 s.2.2.2.2.2.1 s.2.2.2.2.2.2.1 s.2.2.2.2.2.2.2.1 s.2.2.2.2.2.2.2.2.1 s.2.2.2.2.2.2.2.2.2.1 s.2.2.2.2.2.2.2.2.2.2.1 s.2.2.2.2.2.2.2.2.2.2.2.1 s.2.2.2.2.2.2.2.2.2.2.2.2.1 s.2.2.2.2.2.2.2.2.2.2.2.2.2.1 s.2.2.2.2.2.2.2.2.2.2.2.2.2.2) (fun s => I s.1 s.2.1 s.2.2.1 s.2.2.2.1 s.2.2.2.2.1 s.2.2.2.2.2.1 s.2.2.2.2.2.2.1 s.2.2.2.2.2.2.2.1 s.2.2.2.2.2.2.2.2.1 s.2.2.2.2.2.2.2.2.2.1 s.2.2.2.2.2.2.2.2.2.2.1 s.2.2.2.2.2.2.2.2.2.2.2.1 s.2.2.2.2.2.2.2.2.2.2.2.2.1 s.2.2.2.2.2.2.2.2.2.2.2.2.2.1 s.2.2.2.2.2.2.2.2.2.2.2.2.2.2) (fun s => μ s.1 s.2.1 s.2.2.1 s.2.2.2.1 s.2.2.2.2.1 s.2.2.2.2.2.1 s.2.2.2.2.2.2.1 s.2.2.2.2.2.2.2.1 s.2.2.2.2.2.2.2.2.1 s.2.2.2.2.2.2.2.2.2.1 s.2.2.2.2.2.2.2.2.2.2.1 s.2.2.2.2.2.2.2.2.2.2.2.1 s.2.2.2.2.2.2.2.2.2.2.2.2.1 s.2.2.2.2.2.2.2.2.2.2.2.2.2.1 s.2.2.2.2.2.2.2.2.2.2.2.2.2.2) (fun n s hI hk => hs n s.1 s.2.1 s.2.2.1 s.2.2.2.1 s.2.2.2.2.1 s.2.2.2.2.2.1 s.2.2.2.2.2.2.1 s.2.2.2.2.2.2.2.1 s.2.2.2.2.2.2.2.2.1 s.2.2.2.2.2.2.2.2.2.1 s.2.2.2.2.2.2.2.2.2.2.1 s.2.2.2.2.2.2.2.2.2.2.2.1 s.2.2.2.2.2.2.2.2.2.2.2.2.1 s.2.2.2.2.2.2.2.2.2.2.2.2.2.1 s.2.2.2.2.2.2.2.2.2.2.2.2.2.2 hI (fun b1 b2 b3 b4 b5 b6 b7 b8 b9 b10 b11 b12 b13 b14 b15 h9 hm => hk (b1, b2, b3, b4, b5, b6, b7, b8, b9, b10, b11, b12, b13, b14, b15) h9 hm)) (a1, a2, a3, a4, a5, a6, a7, a8, a9, a10, a11, a12, a13, a14, a15) h
theorem lp16 {A1 A2 A3 A4 A5 A6 A7 A8 A9 A10 A11 A12 A13 A14 A15 A16 : Type} (W : Nat → A1 → A2 → A3 → A4 → A5 → A6 → A7 → A8 → A9 → A10 → A11 → A12 → A13 → A14 → A15 → A16 → Prop) (I : A1 → A2 → A3 → A4 → A5 → A6 → A7 → A8 → A9 → A10 → A11 → A12 → A13 → A14 → A15 → A16 → Prop) (μ : A1 → A2 → A3 → A4 → A5 → A6 → A7 → A8 → A9 → A10 → A11 → A12 → A13 → A14 → A15 → A16 → Nat) (hs : ∀ (n : Nat) (a1 : A1) (a2 : A2) (a3 : A3) (a4 : A4) (a5 : A5) (a6 : A6) (a7 : A7) (a8 : A8) (a9 : A9) (a10 : A10) (a11 : A11) (a12 : A12) (a13 : A13) (a14 : A14) (a15 : A15) (a16 : A16), I a1 a2 a3 a4 a5 a6 a7 a8 a9 a10 a11 a12 a13 a14 a15 a16 → (∀ (b1 : A1) (b2 : A2) (b3 : A3) (b4 : A4) (b5 : A5) (b6 : A6) (b7 : A7) (b8 : A8) (b9 : A9) (b10 : A10) (b11 : A11) (b12 : A12) (b13 : A13) (b14 : A14) (b15 : A15) (b16 : A16), I b1 b2 b3 b4 b5 b6 b7 b8 b9 b10 b11 b12 b13 b14 b15 b16 → μ b1 b2 b3 b4 b5 b6 b7 b8 b9 b10 b11 b12 b13 b14 b15 b16 < μ a1 a2 a3 a4 a5 a6 a7 a8 a9 a10 a11 a12 a13 a14 a15 a16 → W n b1 b2 b3 b4 b5 b6 b7 b8 b9 b10 b11 b12 b13 b14 b15 b16) → W (n + 1) a1 a2 a3 a4 a5 a6 a7 a8 a9 a10 a11 a12 a13 a14 a15 a16) (a1 : A1) (a2 : A2) (a3 : A3) (a4 : A4) (a5 : A5) (a6 : A6) (a7 : A7) (a8 : A8) (a9 : A9) (a10 : A10) (a11 : A11) (a12 : A12) (a13 : A13) (a14 : A14) (a15 : A15) (a16 : A16) (h : I a1 a2 a3 a4 a5 a6 a7 a8 a9 a10 a11 a12 a13 a14 a15 a16) : ∃ n, W n a1 a2 a3 a4 a5 a6 a7 a8 a9 a10 a11 a12 a13 a14 a15 a16 :=
  loop_m (σ := A1 × A2 × A3 × A4 × A5 × A6 × A7 × A8 × A9 × A10 × A11 × A12 × A13 × A14 × A15 × A16) (fun n s => W n s.1 s.2.1 s.2.2.1 s.2.2.2.1 s.2.2.2.2.1 s.2.2.2.2.2.1 s.2.2.2.2.2.2.1 s.2.2.2.2.2.2.2.1 s.2.2.2.2.2.2.2.2.1 s.2.2.2.2.2.2.2.2.2.1 s.2.2.2.2.2.2.2.2.2.2.1 s.2.2.2.2.2.2.2.2.2.2.2.1 s.2.2.2.2.2.2.2.2.2.2.2.2.1 s.2.2.2.2.2.2.2.2.2.2.2.2.2.1 s.2.2.2.2.2.2.2.2.2.2.2.2.2.2.1 s.2.2.2.2.2.2.2.2.2.2.2.2.2.2.2) (fun s => I s.1 s.2.1 s.2.2.1 s.2.2.2.1 s.2.2.2.2.1 s.2.2.2.2.2.1 s.2.2.2.2.2.2.1 s.2.2.2.2.2.2.2.1 s.2.2.2.2.2.2.2.2.1 s.2.2.2.2.2.2.2.2.2.1 s.2.2.2.2.2.2.2.2.2.2.1 s.2.2.2.2.2.2.2.2.2.2.2.1 s.2.2.2.2.2.2.2.2.2.2.2.2.1 s.2.2.2.2.2.2.2.2.2.2.2.2.2.1 s.2.2.2.2.2.2.2.2.2.2.2.2.2.2.1 s.2.2.2.2.2.2.2.2.2.2.2.2.2.2.2) (fun s => μ s.1 s.2.1 s.2.2.1 s.2.2.2.1 s.2.2.2.2.1 s.2.2.2.2.2.1 s.2.2.2.2.2.2.1 s.2.2.2.2.2.2.2.1 s.2.2.2.2.2.2.2.2.1 s.2.2.2.2.2.2.2.2.2.1 s.2.2.2.2.2.2.2.2.2.2.1 s.2.2.2.2.2.2.2.2.2.2.2.1 s.2.2.2.2.2.2.2.2.2.2.2.2.1 s.2.2.2.2.2.2.2.2.2.2.2.2.2.1 s.2.2.2.2.2.2.2.2.2.2.2.2.2.2.1 s.2.2.2.2.2.2.2.2.2.2.2.2.2.2.2) (fun n s hI hk => hs n s.1 s.2.1 s.2.2.1 s.2.2.2.1 s.2.2.2.2.1 s.2.2.2.2.2.1 s.2.2.2.2.2.2.1 s.2.2.2.2.2.2.2.1 s.2.2.2.2.2.2.2.2.1 s.2.2.2.2.2.2.2.2.2.1 s.2.2.2.2.2.2.2.2.2.2.1 s.2.2.2.2.2.2.2.2.2.2.2.1 s.2.2.2.2.2.2.2.2.2.2.2.2.1 s.2.2.2.2.2.2.2.2.2.2.2.2.2.1 s.2.2.2.2.2.2.2.2.2.2.2.2.2.2.1 s.2.2.2.2.2.2.2.2.2.2.2.2.2.2.2 hI (fun b1 b2 b3 b4 b5 b6 b7 b8 b9 b10 b11 b12 b13 b14 b15 b16 h9 hm => hk (b1, b2, b3, b4, b5, b6, b7, b8, b9, b10, b11, b12, b13, b14, b15, b16) h9 hm)) (a1, a2, a3, a4, a5, a6, a7, a8, a9, a10, a11, a12, a13, a14, a15, a16) h
theorem pk_least (P : Nat → Prop) (h : ∃ k, P k) : ∃ k, P k ∧ ∀ j, j < k → ¬ P j := by
  obtain ⟨k, hk⟩ := h
  induction k using Nat.strongRecOn with
  | ind k ih =>
    by_cases e : ∃ j, j < k ∧ P j
    · obtain ⟨j, hj, pj⟩ := e
      exact ih j hj pj
    · exact ⟨k, hk, fun j hj pj => e ⟨j, hj, pj⟩⟩
theorem rp1 {ρ A1 : Type} (W : Nat → (ρ → Prop) → A1 → Prop) (ok : A1 → Prop) (μ : A1 → Nat) (val : A1 → ρ)
    (hs : ∀ (d : Nat) (post : ρ → Prop) (a1 : A1), ok a1 → post (val a1) → (∀ (post' : ρ → Prop) (b1 : A1), ok b1 → μ b1 < μ a1 → post' (val b1) → W d post' b1) → W (d + 1) post a1) :
    ∀ (d : Nat) (post : ρ → Prop) (a1 : A1), ok a1 → μ a1 < d → post (val a1) → W d post a1 := by
  intro d
  induction d with
  | zero => intro post a1 _ h; omega
  | succ d ih =>
    intro post a1 ho hm hp
    exact hs d post a1 ho hp (fun post' b1 ho' hm' hp' => ih post' b1 ho' (by omega) hp')
theorem rp2 {ρ A1 A2 : Type} (W : Nat → (ρ → Prop) → A1 → A2 → Prop) (ok : A1 → A2 → Prop) (μ : A1 → A2 → Nat) (val : A1 → A2 → ρ)
    (hs : ∀ (d : Nat) (post : ρ → Prop) (a1 : A1) (a2 : A2), ok a1 a2 → post (val a1 a2) → (∀ (post' : ρ → Prop) (b1 : A1) (b2 : A2), ok b1 b2 → μ b1 b2 < μ a1 a2 → post' (val b1 b2) → W d post' b1 b2) → W (d + 1) post a1 a2) :
    ∀ (d : Nat) (post : ρ → Prop) (a1 : A1) (a2 : A2), ok a1 a2 → μ a1 a2 < d → post (val a1 a2) → W d post a1 a2 := by
  intro d
  induction d with
  | zero => intro post a1 a2 _ h; omega
  | succ d ih =>
    intro post a1 a2 ho hm hp
    exact hs d post a1 a2 ho hp (fun post' b1 b2 ho' hm' hp' => ih post' b1 b2 ho' (by omega) hp')
theorem rp3 {ρ A1 A2 A3 : Type} (W : Nat → (ρ → Prop) → A1 → A2 → A3 → Prop) (ok : A1 → A2 → A3 → Prop) (μ : A1 → A2 → A3 → Nat) (val : A1 → A2 → A3 → ρ)
    (hs : ∀ (d : Nat) (post : ρ → Prop) (a1 : A1) (a2 : A2) (a3 : A3), ok a1 a2 a3 → post (val a1 a2 a3) → (∀ (post' : ρ → Prop) (b1 : A1) (b2 : A2) (b3 : A3), ok b1 b2 b3 → μ b1 b2 b3 < μ a1 a2 a3 → post' (val b1 b2 b3) → W d post' b1 b2 b3) → W (d + 1) post a1 a2 a3) :
    ∀ (d : Nat) (post : ρ → Prop) (a1 : A1) (a2 : A2) (a3 : A3), ok a1 a2 a3 → μ a1 a2 a3 < d → post (val a1 a2 a3) → W d post a1 a2 a3 := by
  intro d
  induction d with
  | zero => intro post a1 a2 a3 _ h; omega
  | succ d ih =>
    intro post a1 a2 a3 ho hm hp
    exact hs d post a1 a2 a3 ho hp (fun post' b1 b2 b3 ho' hm' hp' => ih post' b1 b2 b3 ho' (by omega) hp')
theorem rp4 {ρ A1 A2 A3 A4 : Type} (W : Nat → (ρ → Prop) → A1 → A2 → A3 → A4 → Prop) (ok : A1 → A2 → A3 → A4 → Prop) (μ : A1 → A2 → A3 → A4 → Nat) (val : A1 → A2 → A3 → A4 → ρ)
    (hs : ∀ (d : Nat) (post : ρ → Prop) (a1 : A1) (a2 : A2) (a3 : A3) (a4 : A4), ok a1 a2 a3 a4 → post (val a1 a2 a3 a4) → (∀ (post' : ρ → Prop) (b1 : A1) (b2 : A2) (b3 : A3) (b4 : A4), ok b1 b2 b3 b4 → μ b1 b2 b3 b4 < μ a1 a2 a3 a4 → post' (val b1 b2 b3 b4) → W d post' b1 b2 b3 b4) → W (d + 1) post a1 a2 a3 a4) :
    ∀ (d : Nat) (post : ρ → Prop) (a1 : A1) (a2 : A2) (a3 : A3) (a4 : A4), ok a1 a2 a3 a4 → μ a1 a2 a3 a4 < d → post (val a1 a2 a3 a4) → W d post a1 a2 a3 a4 := by
  intro d
  induction d with
  | zero => intro post a1 a2 a3 a4 _ h; omega
  | succ d ih =>
    intro post a1 a2 a3 a4 ho hm hp
    exact hs d post a1 a2 a3 a4 ho hp (fun post' b1 b2 b3 b4 ho' hm' hp' => ih post' b1 b2 b3 b4 ho' (by omega) hp')
theorem rp5 {ρ A1 A2 A3 A4 A5 : Type} (W : Nat → (ρ → Prop) → A1 → A2 → A3 → A4 → A5 → Prop) (ok : A1 → A2 → A3 → A4 → A5 → Prop) (μ : A1 → A2 → A3 → A4 → A5 → Nat) (val : A1 → A2 → A3 → A4 → A5 → ρ)
    (hs : ∀ (d : Nat) (post : ρ → Prop) (a1 : A1) (a2 : A2) (a3 : A3) (a4 : A4) (a5 : A5), ok a1 a2 a3 a4 a5 → post (val a1 a2 a3 a4 a5) → (∀ (post' : ρ → Prop) (b1 : A1) (b2 : A2) (b3 : A3) (b4 : A4) (b5 : A5), ok b1 b2 b3 b4 b5 → μ b1 b2 b3 b4 b5 < μ a1 a2 a3 a4 a5 → post' (val b1 b2 b3 b4 b5) → W d post' b1 b2 b3 b4 b5) → W (d + 1) post a1 a2 a3 a4 a5) :
    ∀ (d : Nat) (post : ρ → Prop) (a1 : A1) (a2 : A2) (a3 : A3) (a4 : A4) (a5 : A5), ok a1 a2 a3 a4 a5 → μ a1 a2 a3 a4 a5 < d → post (val a1 a2 a3 a4 a5) → W d post a1 a2 a3 a4 a5 := by
  intro d
  induction d with
  | zero => intro post a1 a2 a3 a4 a5 _ h; omega
  | succ d ih =>
    intro post a1 a2 a3 a4 a5 ho hm hp
    exact hs d post a1 a2 a3 a4 a5 ho hp (fun post' b1 b2 b3 b4 b5 ho' hm' hp' => ih post' b1 b2 b3 b4 b5 ho' (by omega) hp')
theorem rp6 {ρ A1 A2 A3 A4 A5 A6 : Type} (W : Nat → (ρ → Prop) → A1 → A2 → A3 → A4 → A5 → A6 → Prop) (ok : A1 → A2 → A3 → A4 → A5 → A6 → Prop) (μ : A1 → A2 → A3 → A4 → A5 → A6 → Nat) (val : A1 → A2 → A3 → A4 → A5 → A6 → ρ)
    (hs : ∀ (d : Nat) (post : ρ → Prop) (a1 : A1) (a2 : A2) (a3 : A3) (a4 : A4) (a5 : A5) (a6 : A6), ok a1 a2 a3 a4 a5 a6 → post (val a1 a2 a3 a4 a5 a6) → (∀ (post' : ρ → Prop) (b1 : A1) (b2 : A2) (b3 : A3) (b4 : A4) (b5 : A5) (b6 : A6), ok b1 b2 b3 b4 b5 b6 → μ b1 b2 b3 b4 b5 b6 < μ a1 a2 a3 a4 a5 a6 → post' (val b1 b2 b3 b4 b5 b6) → W d post' b1 b2 b3 b4 b5 b6) → W (d + 1) post a1 a2 a3 a4 a5 a6) :
    ∀ (d : Nat) (post : ρ → Prop) (a1 : A1) (a2 : A2) (a3 : A3) (a4 : A4) (a5 : A5) (a6 : A6), ok a1 a2 a3 a4 a5 a6 → μ a1 a2 a3 a4 a5 a6 < d → post (val a1 a2 a3 a4 a5 a6) → W d post a1 a2 a3 a4 a5 a6 := by
  intro d
  induction d with
  | zero => intro post a1 a2 a3 a4 a5 a6 _ h; omega
  | succ d ih =>
    intro post a1 a2 a3 a4 a5 a6 ho hm hp
    exact hs d post a1 a2 a3 a4 a5 a6 ho hp (fun post' b1 b2 b3 b4 b5 b6 ho' hm' hp' => ih post' b1 b2 b3 b4 b5 b6 ho' (by omega) hp')
theorem rec_p {σ ρ : Type} (W : Nat → (ρ → Prop) → σ → Prop) (ok : σ → Prop) (μ : σ → Nat) (val : σ → ρ)
    (hs : ∀ d s post, ok s → post (val s) → (∀ s' post', ok s' → μ s' < μ s → post' (val s') → W d post' s') → W (d + 1) post s) :
    ∀ d s post, ok s → μ s < d → post (val s) → W d post s := by
  intro d
  induction d with
  | zero => intro s post _ h; omega
  | succ d ih =>
    intro s post ho hm hp
    exact hs d s post ho hp (fun s' post' ho' hm' hp' => ih s' post' ho' (by omega) hp')
theorem rec_q {σ ρ : Type} (W : Nat → (ρ → Prop) → σ → Prop) (ok : σ → Prop) (μ : σ → Nat) (Q : σ → ρ → Prop)
    (hs : ∀ d s post, ok s → (∀ r, Q s r → post r) → (∀ s' post', ok s' → μ s' < μ s → (∀ r, Q s' r → post' r) → W d post' s') → W (d + 1) post s) :
    ∀ d s post, ok s → μ s < d → (∀ r, Q s r → post r) → W d post s := by
  intro d
  induction d with
  | zero => intro s post _ h; omega
  | succ d ih =>
    intro s post ho hm hp
    exact hs d s post ho hp (fun s' post' ho' hm' hp' => ih s' post' ho' (by omega) hp')
def bx_sum (f : Nat → Int32) : Nat → Int32
  | 0 => 0
  | n + 1 => bx_sum f n + f n
theorem ek_u {A : Prop} {B : Nat → Prop} {k N : Nat} (hk : k < N) (h : B k) : (some k = none → A) ∧ (∀ y : Nat, some k = some y → (y < N ∧ B y)) :=
  ⟨fun z => absurd z (Option.some_ne_none k), fun _ e => (by cases e; exact ⟨hk, h⟩)⟩
theorem ek_nu {A : Prop} {B : Nat → Prop} (h : A) : ((none : Option Nat) = none → A) ∧ (∀ y : Nat, (none : Option Nat) = some y → B y) :=
  ⟨fun _ => h, fun _ e => (by cases e)⟩
theorem ek_if {c d A B : Prop} (e : c ↔ d) (f : d → A) (g : ¬ d → B) : (c → A) ∧ (¬ c → B) :=
  ⟨fun z => f (e.mp z), fun z => g (fun y => z (e.mpr y))⟩
theorem ek_v {α : Sort _} {P : α → Prop} {a b : α} (e : a = b) (h : P b) : P a := e ▸ h
theorem co_some {x : Option Nat} {A : Prop} {B : Nat → Prop} (i : Nat) (h : B i) (hx : x = some i := by rfl) : (x = none → A) ∧ (∀ y : Nat, x = some y → B y) := by
  subst hx
  exact ⟨fun e => (nomatch e), fun y e => Option.some.inj e ▸ h⟩
theorem co_none {x : Option Nat} {A : Prop} {B : Nat → Prop} (h : A) (hx : x = none := by rfl) : (x = none → A) ∧ (∀ y : Nat, x = some y → B y) := by
  subst hx
  exact ⟨fun _ => h, fun y e => (nomatch e)⟩
theorem co_any {x : Option Nat} {A : Prop} {B : Nat → Prop} (hn : x = none → A) (hs : ∀ i : Nat, x = some i → B i) : (x = none → A) ∧ (∀ y : Nat, x = some y → B y) := ⟨hn, hs⟩
theorem co_2 {P : Nat → Prop} (h0 : P 0) (h1 : P 1) {i : Nat} (hi : i < 2) : P i :=
  match i, hi with
  | 0, _ => h0
  | 1, _ => h1
theorem co_3 {P : Nat → Prop} (h0 : P 0) (h1 : P 1) (h2 : P 2) {i : Nat} (hi : i < 3) : P i :=
  match i, hi with
  | 0, _ => h0
  | 1, _ => h1
  | 2, _ => h2
theorem co_4 {P : Nat → Prop} (h0 : P 0) (h1 : P 1) (h2 : P 2) (h3 : P 3) {i : Nat} (hi : i < 4) : P i :=
  match i, hi with
  | 0, _ => h0
  | 1, _ => h1
  | 2, _ => h2
  | 3, _ => h3
theorem co_dec {N : Nat} {P : Nat → Prop} [DecidablePred P] (h : (List.range N).all (fun i => decide (P i)) = true) {i : Nat} (hi : i < N) : P i := by
  have := List.all_eq_true.mp h i (List.mem_range.mpr hi)
  exact of_decide_eq_true this
theorem co_tab {α : Type} {l : List α} {d : α} {P : α → Prop} (h : ∀ a, a ∈ l → P a) {i : Nat} (hi : i < l.length) : P (l.getD i d) := by
  rw [List.getD_eq_getElem?_getD, List.getElem?_eq_getElem hi]
  exact h _ (List.getElem_mem hi)
theorem pk_mu {x : Int32} {L : Nat} (h0 : ¬ x < 0) (h : ¬ nI L ≤ x) (hL : L < 2 ^ 31) : ∃ j : Nat, j < L ∧ x = nI j ∧ x + 1 = nI (j + 1) ∧ x.toNatClampNeg = j ∧ L - (x + 1).toNatClampNeg < L - x.toNatClampNeg := by
  obtain ⟨j, hj, rfl⟩ := nI_of h0
  have hl : j < L := Nat.not_le.mp fun q => h (nI_le q hj)
  refine ⟨j, hl, rfl, nI_1 j, nI_clamp hj, ?_⟩
  rw [nI_1, nI_clamp (by omega), nI_clamp hj]
  omega
theorem op_s {α : Type} {r : Option α} {A : Prop} {B : α → Prop} {y : α} (h : r = some y) (b : B y) : (r = none → A) ∧ ∀ z, r = some z → B z :=
  ⟨fun e => (by rw [h] at e; cases e), fun z e => (by rw [h] at e; cases e; exact b)⟩
def l_holds {α : Type} (a : Nat → Option Nat) (LP : List Nat) (p : Nat → α) (c : Nat) (b : Nat → α) : Prop :=
  ∀ j, j < c → ∃ y, a j = some y ∧ y ∈ LP ∧ p y = b j
theorem l_holds_0 {α : Type} {a : Nat → Option Nat} {LP : List Nat} {p b : Nat → α} : l_holds a LP p 0 b := fun j h => absurd h (Nat.not_lt_zero j)
theorem l_in_new (LP : List Nat) (q : Nat) : q ∈ LP ++ [q] := List.mem_append.mpr (Or.inr (List.mem_singleton.mpr rfl))
def l_sum (b : Nat → Int32) : Nat → Int32
  | 0 => 0
  | k + 1 => l_sum b k + b k
theorem sb_shr0 (x : Int32) : x >>> ((0 : Int32) &&& 31) = x := by
  rw [show ((0 : Int32) &&& 31) = 0 by decide]
  simp
theorem sb_shl0 (x : Int32) : x <<< ((0 : Int32) &&& 31) = x := by
  rw [show ((0 : Int32) &&& 31) = 0 by decide]
  simp
theorem sb_cl0 : (0 : Int32).toNatClampNeg = 0 := by decide
theorem sb_m1 {p : Nat} (h : 0 < p) : nI p + (-1) = nI (p - 1) := by
  obtain ⟨q, rfl⟩ : ∃ q, p = q + 1 := ⟨p - 1, by omega⟩
  exact pk_m1 q
def sb_b (c : Nat) : Int32 := (nI c).toInt8.toInt32
theorem sb_byte : ∀ c, c < 256 → sb_b c &&& 255 = nI c ∧ ((nI c).toUInt32 % 65536).toInt32 = nI c ∧ nI c ≤ 255 := by decide +kernel
def sb_Fit (a : Nat → Int32) : Prop := ∀ j, fits .byte (.int (a j)) = true
def sb_Lat (t : Nat → Nat) (n : Nat) (a : Nat → Int32) : Prop := ∀ j, j < n → t j < 256 ∧ a j = sb_b (t j)
theorem sb_fitB (c : Nat) : fits .byte (.int (sb_b c)) = true := pk_fb _
theorem sb_fit0 : sb_Fit (fun _ => 0) := fun _ => by
  show fits .byte (.int 0) = true
  decide
theorem sb_fitU {a : Nat → Int32} {k : Nat} {x : Int32} (h : sb_Fit a) (hx : fits .byte (.int x) = true) : sb_Fit (upd a k x) := by
  intro j
  by_cases e : j = k
  · subst e
    rw [pk_us]
    exact hx
  · rw [pk_un e]
    exact h j
def sb_cat (t : Nat → Nat) (n : Nat) (s : Nat → Nat) : Nat → Nat := fun j => if j < n then t j else s (j - n)
theorem sb_cat_lo {t s : Nat → Nat} {n j : Nat} (h : j < n) : sb_cat t n s j = t j := if_pos h
theorem sb_cat_hi {t s : Nat → Nat} {n j : Nat} : sb_cat t n s (n + j) = s j := by
  show (if n + j < n then t (n + j) else s (n + j - n)) = s j
  rw [if_neg (by omega), Nat.add_sub_cancel_left]
theorem sb_latPut {t s : Nat → Nat} {n w : Nat} {a a' : Nat → Int32} (h : sb_Lat t n a) (hk : ∀ j, j < n → a' j = a j) (hs : ∀ i, i < w → s i < 256 ∧ a' (n + i) = sb_b (s i)) : sb_Lat (sb_cat t n s) (n + w) a' := by
  intro j hj
  by_cases e : j < n
  · rw [sb_cat_lo e, hk j e]
    exact h j e
  · obtain ⟨i, rfl⟩ : ∃ i, j = n + i := ⟨j - n, by omega⟩
    rw [sb_cat_hi]
    exact hs i (by omega)
theorem sb_latKeep {t : Nat → Nat} {n : Nat} {a a' : Nat → Int32} (h : sb_Lat t n a) (hk : ∀ j, j < n → a' j = a j) : sb_Lat t n a' := fun j hj => by
  rw [hk j hj]
  exact h j hj
def sb_cap (q m : Nat) : Nat := if q ≤ m then m else if 2 * m + 2 < q then q else 2 * m + 2
def sb_Room (q m mc ms : Nat) : Prop := q ≤ m ∨ (1 ≤ mc ∧ sb_cap q m ≤ ms ∧ sb_cap q m ≤ 65536)
theorem sb_cap_ge (q m : Nat) : q ≤ sb_cap q m := by
  unfold sb_cap
  split
  · omega
  · split <;> omega
theorem sb_cap_gem (q m : Nat) : m ≤ sb_cap q m := by
  unfold sb_cap
  split
  · omega
  · split <;> omega
theorem sb_cap_le {q m mc ms : Nat} (hm : m ≤ 65536) (hr : sb_Room q m mc ms) : sb_cap q m ≤ 65536 := by
  rcases hr with h | h
  · rw [sb_cap, if_pos h]
    exact hm
  · exact h.2.2
theorem sb_at {P : Int32 → Prop} {x y : Int32} (e : x = y) (h : P y) : P x := e ▸ h
def sb_dg (w : Nat) : Nat := if w < 10 then 1 else if w < 100 then 2 else if w < 1000 then 3 else if w < 10000 then 4 else if w < 100000 then 5 else if w < 1000000 then 6 else if w < 10000000 then 7 else if w < 100000000 then 8 else if w < 1000000000 then 9 else 10
def sb_dec (v : Nat) : Nat → Nat := fun i => 48 + v / 10 ^ (sb_dg v - 1 - i) % 10
theorem sb_dg_in (w : Nat) : 1 ≤ sb_dg w ∧ sb_dg w ≤ 10 := by
  unfold sb_dg
  constructor <;> (repeat' split) <;> omega
theorem sb_dg100 {w : Nat} (h : 100 ≤ w) (hw : w < 2 ^ 31) : sb_dg w = sb_dg (w / 100) + 2 := by
  rw [sb_dg, sb_dg, if_neg (show ¬ w < 10 by omega), if_neg (show ¬ w < 100 by omega)]
  by_cases h3 : w < 1000
  · rw [if_pos h3, if_pos (show w / 100 < 10 by omega)]
  rw [if_neg h3, if_neg (show ¬ w / 100 < 10 by omega)]
  by_cases h4 : w < 10000
  · rw [if_pos h4, if_pos (show w / 100 < 100 by omega)]
  rw [if_neg h4, if_neg (show ¬ w / 100 < 100 by omega)]
  by_cases h5 : w < 100000
  · rw [if_pos h5, if_pos (show w / 100 < 1000 by omega)]
  rw [if_neg h5, if_neg (show ¬ w / 100 < 1000 by omega)]
  by_cases h6 : w < 1000000
  · rw [if_pos h6, if_pos (show w / 100 < 10000 by omega)]
  rw [if_neg h6, if_neg (show ¬ w / 100 < 10000 by omega)]
  by_cases h7 : w < 10000000
  · rw [if_pos h7, if_pos (show w / 100 < 100000 by omega)]
  rw [if_neg h7, if_neg (show ¬ w / 100 < 100000 by omega)]
  by_cases h8 : w < 100000000
  · rw [if_pos h8, if_pos (show w / 100 < 1000000 by omega)]
  rw [if_neg h8, if_neg (show ¬ w / 100 < 1000000 by omega)]
  by_cases h9 : w < 1000000000
  · rw [if_pos h9, if_pos (show w / 100 < 10000000 by omega)]
  rw [if_neg h9, if_neg (show ¬ w / 100 < 10000000 by omega)]
  rw [if_pos (show w / 100 < 100000000 by omega)]
theorem sb_negT {w : Nat} (h : w < 2 ^ 31) : (-nI w).toInt = -(w : Int) := by
  rw [Int32.toInt_neg, nI_toInt h]
  exact Int.bmod_eq_of_le (by omega) (by omega)
theorem sb_nle {a b : Nat} (ha : a < 2 ^ 31) (hb : b < 2 ^ 31) : -nI a ≤ -nI b ↔ b ≤ a := by
  rw [Int32.le_iff_toInt_le, sb_negT ha, sb_negT hb]
  omega
theorem sb_nlt {a b : Nat} (ha : a < 2 ^ 31) (hb : b < 2 ^ 31) : -nI a < -nI b ↔ b < a := by
  rw [Int32.lt_iff_toInt_lt, sb_negT ha, sb_negT hb]
  omega
theorem sb_cmp {A B : Prop} {x : Int32} (v c : Nat) (f : c ≤ v → A) (g : v < c → B) (hv : v < 2 ^ 31) (hx : x = -nI c := by rfl) (hc : c < 2 ^ 31 := by omega) : (-nI v ≤ x → A) ∧ (¬ -nI v ≤ x → B) := by
  subst hx
  rw [sb_nle hv hc]
  exact ⟨f, fun z => g (by omega)⟩
theorem sb_ndiv {w : Nat} (hw : w < 2 ^ 31) : (-nI w) / 100 = -nI (w / 100) := by
  apply Int32.toInt_inj.mp
  have h100 : (100 : Int32).toInt = 100 := by decide
  rw [Int32.toInt_div, sb_negT hw, h100, sb_negT (by omega), Int.neg_tdiv, Int.tdiv_eq_ediv_of_nonneg (by omega), Int.bmod_eq_of_le (by omega) (by omega)]
  omega
theorem sb_nrem {w : Nat} (hw : w < 2 ^ 31) : (-nI (w / 100)) * 100 - (-nI w) = nI (w % 100) := by
  have h := pk_rem (a := w) (d := 100) hw (by decide) (by decide)
  rw [pk_div hw (by decide) (by decide)] at h
  rw [← h]
  show (-nI (w / 100)) * nI 100 - (-nI w) = nI w - nI (w / 100) * nI 100
  rw [Int32.neg_mul, Int32.sub_neg, Int32.add_comm, ← Int32.sub_eq_add_neg]
end
section
/-! ===== lN n to 2^64: shifts, and, or, masks, one bit ===== -/
theorem wb_tb (n : Nat) : (lN n).toBitVec = BitVec.ofNat 64 n := rfl
theorem wb_inj {a b : Int64} (h : a.toBitVec = b.toBitVec) : a = b := Int64.toBitVec_inj.mp h
theorem wb_tn {n : Nat} (h : n < 2 ^ 64) : (lN n).toBitVec.toNat = n := by rw [wb_tb, BitVec.toNat_ofNat, Nat.mod_eq_of_lt h]
theorem wb_of (x : Int64) : ∃ n, n < 2 ^ 64 ∧ x = lN n := ⟨x.toBitVec.toNat, x.toBitVec.isLt, wb_inj (by rw [wb_tb]; simp)⟩
theorem wb_of32 (x : Int32) : ∃ n, n < 2 ^ 32 ∧ x = nI n := ⟨x.toBitVec.toNat, x.toBitVec.isLt, Int32.toBitVec_inj.mp (by show _ = BitVec.ofNat 32 _; simp)⟩
theorem wb_c : ∀ k, k < 64 → ((nI k).toInt64 &&& 63) = lN k := by decide +kernel
theorem wb_cu : ∀ k, k < 64 → ((nI k).toInt64.toUInt64 &&& Int64.toUInt64 63) = UInt64.ofNat k := by decide +kernel
theorem wb_sm : ∀ k, k < 64 → (BitVec.ofNat 64 k).smod 64 = BitVec.ofNat 64 k := by decide +kernel
theorem wb_pw {a b : Nat} (h : a ≤ b) : 2 ^ b = 2 ^ a * 2 ^ (b - a) := by rw [← Nat.pow_add]; congr 1; omega
theorem wb_lt2 {a b : Nat} (h : a < b) : 2 ^ a < 2 ^ b := Nat.pow_lt_pow_right (by decide) h
theorem wb_mod (n : Nat) : lN n = lN (n % 2 ^ 64) := wb_inj (by rw [wb_tb, wb_tb]; apply BitVec.eq_of_toNat_eq; rw [BitVec.toNat_ofNat, BitVec.toNat_ofNat, Nat.mod_mod])
theorem wb_shr {n k : Nat} (hn : n < 2 ^ 64) (hk : k < 64) : ((lN n).toUInt64 >>> ((nI k).toInt64.toUInt64 &&& Int64.toUInt64 63)).toInt64 = lN (n / 2 ^ k) := by
  rw [wb_cu k hk]
  apply wb_inj
  apply BitVec.eq_of_toNat_eq
  show ((lN n).toUInt64 >>> UInt64.ofNat k).toNat = (BitVec.ofNat 64 _).toNat
  have h1 : (UInt64.ofNat k).toNat = k := by
    show (BitVec.ofNat 64 k).toNat = k
    rw [BitVec.toNat_ofNat, Nat.mod_eq_of_lt (by omega)]
  have h2 : (lN n).toUInt64.toNat = n := wb_tn hn
  rw [UInt64.toNat_shiftRight, h1, h2, Nat.mod_eq_of_lt hk, Nat.shiftRight_eq_div_pow, BitVec.toNat_ofNat, Nat.mod_eq_of_lt (Nat.lt_of_le_of_lt (Nat.div_le_self _ _) hn)]
theorem wb_shl (n : Nat) {k : Nat} (hk : k < 64) : lN n <<< ((nI k).toInt64 &&& 63) = lN (n * 2 ^ k) := by
  rw [wb_c k hk]
  apply wb_inj
  rw [Int64.toBitVec_shiftLeft, wb_tb, wb_tb, wb_tb, wb_sm k hk]
  apply BitVec.eq_of_toNat_eq
  rw [BitVec.shiftLeft_eq', BitVec.toNat_shiftLeft, BitVec.toNat_ofNat, BitVec.toNat_ofNat, BitVec.toNat_ofNat, Nat.mod_eq_of_lt (show k < 2 ^ 64 by omega), Nat.shiftLeft_eq, Nat.mul_mod, Nat.mod_mod, ← Nat.mul_mod]
theorem wb_and {a b : Nat} (ha : a < 2 ^ 64) (hb : b < 2 ^ 64) : lN a &&& lN b = lN (a &&& b) := by
  apply wb_inj
  rw [Int64.toBitVec_and, wb_tb, wb_tb, wb_tb]
  apply BitVec.eq_of_toNat_eq
  rw [BitVec.toNat_and, BitVec.toNat_ofNat, BitVec.toNat_ofNat, BitVec.toNat_ofNat, Nat.mod_eq_of_lt ha, Nat.mod_eq_of_lt hb, Nat.mod_eq_of_lt (Nat.and_lt_two_pow _ hb)]
theorem wb_or {a b : Nat} (ha : a < 2 ^ 64) (hb : b < 2 ^ 64) : lN a ||| lN b = lN (a ||| b) := by
  apply wb_inj
  rw [Int64.toBitVec_or, wb_tb, wb_tb, wb_tb]
  apply BitVec.eq_of_toNat_eq
  rw [BitVec.toNat_or, BitVec.toNat_ofNat, BitVec.toNat_ofNat, BitVec.toNat_ofNat, Nat.mod_eq_of_lt ha, Nat.mod_eq_of_lt hb, Nat.mod_eq_of_lt (Nat.or_lt_two_pow ha hb)]
theorem wb_mask {n k : Nat} (hn : n < 2 ^ 64) (hk : k < 64) : lN n &&& lN (2 ^ k - 1) = lN (n % 2 ^ k) := by
  rw [wb_and hn (by have := wb_lt2 hk; omega), Nat.and_two_pow_sub_one_eq_mod]
theorem wb_a1 {n : Nat} (hn : n < 2 ^ 64) : lN n &&& 1 = lN (n % 2) := wb_mask (k := 1) hn (by decide)
theorem wb_bit {n k : Nat} (hn : n < 2 ^ 64) (hk : k < 64) : ((lN n).toUInt64 >>> ((nI k).toInt64.toUInt64 &&& Int64.toUInt64 63)).toInt64 &&& 1 = lN (n / 2 ^ k % 2) := by
  rw [wb_shr hn hk, wb_a1 (Nat.lt_of_le_of_lt (Nat.div_le_self _ _) hn)]
theorem wb_xor {q k : Nat} (hk : k < 63) (h : 2 ^ k ≤ q) (h2 : q < 2 ^ (k + 1)) : lN q ^^^ lN (2 ^ k) = lN (q - 2 ^ k) := by
  obtain ⟨r, rfl⟩ : ∃ r, q = 2 ^ k + r := ⟨q - 2 ^ k, by omega⟩
  have hr : r < 2 ^ k := by rw [Nat.pow_succ] at h2; omega
  have hx : (2 ^ k + r) ^^^ 2 ^ k = r := by
    apply Nat.eq_of_testBit_eq
    intro i
    rw [Nat.testBit_xor, Nat.testBit_two_pow]
    rcases Nat.lt_trichotomy i k with h | h | h
    · rw [Nat.testBit_two_pow_add_gt h]
      simp [show ¬ k = i by omega]
    · subst h
      rw [Nat.testBit_two_pow_add_eq]
      simp
    · have a1 : 2 ^ (k + 1) ≤ 2 ^ i := Nat.pow_le_pow_right (by decide) h
      rw [Nat.testBit_lt_two_pow (show 2 ^ k + r < 2 ^ i by omega), Nat.testBit_lt_two_pow (show r < 2 ^ i by omega)]
      simp [show ¬ k = i by omega]
  have b1 := wb_lt2 (show k + 1 < 64 by omega)
  have b2 := wb_lt2 (show k < 64 by omega)
  apply wb_inj
  rw [Int64.toBitVec_xor, wb_tb, wb_tb, wb_tb]
  apply BitVec.eq_of_toNat_eq
  rw [BitVec.toNat_xor, BitVec.toNat_ofNat, BitVec.toNat_ofNat, BitVec.toNat_ofNat, Nat.mod_eq_of_lt (by omega : 2 ^ k + r < 2 ^ 64), Nat.mod_eq_of_lt b2, hx, Nat.add_sub_cancel_left, Nat.mod_eq_of_lt (by omega)]
end
section
/-! the walks' own numbers: start, stride, cell of a reference; one statement of one round -/
def zq_st (b : Nat → Int32) (r : Int32) : Int32 := b ((r >>> ((7 : Int32) &&& 31)) &&& 3).toNatClampNeg + (r &&& 15)
def zq_sd (r : Int32) : Int32 := ((r >>> ((4 : Int32) &&& 31)) &&& 7) - 3
def zq_ce (b : Nat → Int32) (r i : Int32) : Int32 := (zq_st b r + zq_sd r * i) &&& 63
def zq_cN (b : Nat → Int32) (r i : Int32) : Nat := (zq_ce b r i).toNatClampNeg
def zq_two (o : Int32) : Int32 := if o < 1 then 0 else if 4 < o then 0 else 1
def zq_res (o u w i : Int32) : Int32 := if o = 0 then u else if o = 1 then u + w else if o = 5 then u + w else if o = 2 then u - w else if o = 3 then u * w else if o = 4 then u ^^^ w else w + i
def zq_ref (r : Int32) : Prop := ∃ m : Nat, m < 512 ∧ m / 16 % 8 ≠ 7 ∧ r = nI m
def zq_val (bs op sr se M : Nat → Int32) (k : Nat) (i : Int32) : Int32 := zq_res (op k) (M (zq_cN bs (sr k) i)) (if zq_two (op k) = 0 then se k else M (zq_cN bs (se k) i)) i
def zq_stp (bs op tg sr se : Nat → Int32) (k : Nat) (i : Int32) (s : (Nat → Int32) × Int32) : (Nat → Int32) × Int32 :=
  if op k = 6 then (s.1, s.2 + s.1 (zq_cN bs (sr k) i) * se k) else (upd s.1 (zq_cN bs (tg k) i) (zq_val bs op sr se s.1 k i), s.2)
/-- F 0, then F 1, .. then F (n - 1) -/
def zq_it {σ : Type} (F : Nat → σ → σ) : Nat → σ → σ
  | 0, s => s
  | n + 1, s => F n (zq_it F n s)
theorem zq_ce_in (b : Nat → Int32) (r i : Int32) : vp_in (zq_ce b r i) 64 := pk_andIn _ 6 (by decide) (by decide)
theorem zq_and63 (x : Int32) : vp_in (x &&& 63) 64 := pk_andIn _ 6 (by decide) (by decide)
theorem zq_ref_nI {m : Nat} (hm : m < 2 ^ 31) : zq_ref (nI m) ↔ m < 512 ∧ m / 16 % 8 ≠ 7 := by
  constructor
  · rintro ⟨m', h1, h2, e⟩
    have := (nI_eq hm (by omega)).mp e
    subst this
    exact ⟨h1, h2⟩
  · rintro ⟨h1, h2⟩
    exact ⟨m, h1, h2, rfl⟩
section
variable {cn us sm : Int32} {M bs op tg sr se la lb ur uw : Nat → Int32}
theorem zq_start {post : Int32 → Prop} {r : Int32} (h : post (zq_st bs r)) : wpX_startOf post (cn, us, sm, M, bs, op, tg, sr, se, la, lb, ur, uw) r :=
  And.intro (pk_andIn _ 2 (by decide) (by decide)) h
theorem zq_stride {post : Int32 → Prop} {r : Int32} (h : post (zq_sd r)) : wpX_strideOf post r := h
theorem zq_cell {post : Int32 → Prop} {r i : Int32} (h : post (zq_ce bs r i)) : wpX_cell post (cn, us, sm, M, bs, op, tg, sr, se, la, lb, ur, uw) r i := by
  unfold wpX_cell
  exact zq_start h
theorem zq_takes {post : Int32 → Prop} {o : Int32} (h : post (zq_two o)) : wpX_takesTwo post o := by
  unfold zq_two at h
  unfold wpX_takesTwo
  refine br_c (fun c => ?_) (fun c => br_c (fun d => ?_) (fun d => ?_))
  · rwa [if_pos c] at h
  · rwa [if_neg c, if_pos d] at h
  · rwa [if_neg c, if_neg d] at h
theorem zq_result {post : Int32 → Prop} {o u w i : Int32} (h : post (zq_res o u w i)) : wpX_result post o u w i := by
  unfold zq_res at h
  unfold wpX_result
  refine br_c (fun c => by rwa [if_pos c] at h) (fun c => ?_)
  rw [if_neg c] at h
  refine br_c (fun c => by rwa [if_pos c] at h) (fun c => ?_)
  rw [if_neg c] at h
  refine br_c (fun c => by rwa [if_pos c] at h) (fun c => ?_)
  rw [if_neg c] at h
  refine br_c (fun c => by rwa [if_pos c] at h) (fun c => ?_)
  rw [if_neg c] at h
  refine br_c (fun c => by rwa [if_pos c] at h) (fun c => ?_)
  rw [if_neg c] at h
  refine br_c (fun c => by rwa [if_pos c] at h) (fun c => ?_)
  rwa [if_neg c] at h
theorem zq_s4 {m : Nat} (hm : m < 2 ^ 31) : (nI m >>> ((4 : Int32) &&& 31)) &&& 7 = nI (m / 16 % 8) := by
  rw [pk_shrN hm _ 4 (by decide)]
  exact pk_andN (by have := Nat.div_le_self m (2 ^ 4); omega) 3 (by decide)
theorem zq_d16 {m : Nat} (hm : m < 2 ^ 31) : nI m / 16 - nI m / 16 / 8 * 8 = nI (m / 16 % 8) := by
  have h1 : nI m / 16 = nI (m / 16) := pk_div (d := 16) hm (by decide) (by decide)
  rw [h1]
  exact pk_rem (d := 8) (by omega) (by decide) (by decide)
theorem zq_isRef {post : Int32 → Prop} {r : Int32} (h1 : zq_ref r → post 1) (h0 : ¬ zq_ref r → post 0) : wpX_isRef post r := by
  unfold wpX_isRef
  refine br_c (fun c => h0 ?_) (fun c => ?_)
  · rintro ⟨m, hm, -, rfl⟩
    exact nI_pos (by omega) c
  · obtain ⟨m, hm, rfl⟩ := nI_of c
    rw [zq_ref_nI hm] at h1 h0
    refine pk_le 512 m (fun d => h0 (by omega)) (fun d => ?_)
    rw [zq_s4 hm]
    exact pk_eq (m / 16 % 8) 7 (fun e => h0 (by omega)) (fun e => h1 ⟨d, e⟩)
end
section
variable {tt cn : Int32} {M bs op tg sr se : Nat → Int32}
theorem zq_badRef {post : Int32 → Prop} {r : Int32} (h0 : zq_ref r → post 0) (h1 : ¬ zq_ref r → post 1) : wpY_badRef post (tt, cn, M, bs, op, tg, sr, se) r := by
  unfold wpY_badRef
  refine br_c (fun c => h1 ?_) (fun c => ?_)
  · rintro ⟨m, hm, -, rfl⟩
    exact nI_pos (by omega) c
  · obtain ⟨m, hm, rfl⟩ := nI_of c
    rw [zq_ref_nI hm] at h1 h0
    refine pk_lt 511 m (fun d => h1 (by omega)) (fun d => ⟨by decide, by decide, ?_⟩)
    rw [zq_d16 hm]
    exact pk_eq (m / 16 % 8) 7 (fun e => h1 (by omega)) (fun e => h0 ⟨by omega, e⟩)
theorem zq_place {post : Int32 → Prop} {m : Nat} {i : Int32} (hm : m < 2 ^ 31) (h : post (zq_ce bs (nI m) i)) : wpY_place post (tt, cn, M, bs, op, tg, sr, se) (nI m) i := by
  have e1 : (nI m / 128) &&& 3 = (nI m >>> ((7 : Int32) &&& 31)) &&& 3 := by
    rw [pk_shrN hm _ 7 (by decide)]
    exact congrArg (fun z => z &&& (3 : Int32)) (pk_div (d := 128) hm (by decide) (by decide))
  have e2 : (nI m / 16 - nI m / 16 / 8 * 8) - 3 = zq_sd (nI m) := by
    unfold zq_sd
    rw [zq_d16 hm, zq_s4 hm]
  have e3 : nI m - nI m / 16 * 16 = nI m &&& 15 := by
    rw [show nI m - nI m / 16 * 16 = nI (m % 16) from pk_rem (d := 16) hm (by decide) (by decide)]
    exact (pk_andN (by omega) 4 (by decide)).symm
  unfold wpY_place
  exact And.intro (by decide) (nm_r e1 (And.intro (by decide) (And.intro (by decide) (nm_r e2 (And.intro (by decide) (nm_r e3 (And.intro (pk_andIn _ 2 (by decide) (by decide)) h)))))))
theorem zq_placeR {post : Int32 → Prop} {r i : Int32} (hr : zq_ref r) (h : post (zq_ce bs r i)) : wpY_place post (tt, cn, M, bs, op, tg, sr, se) r i := by
  obtain ⟨m, hm, -, rfl⟩ := hr
  exact zq_place (by omega) h
theorem zq_and511 {r : Int32} (hr : zq_ref r) : r &&& 511 = r := by
  obtain ⟨m, hm, -, rfl⟩ := hr
  rw [pk_andN (by omega) 9 (by decide)]
  exact congrArg nI (by omega)
end
end
section
/-! one statement of one round: the component's oneRound, the reference's result -/
/-- what the relation says of statement k -/
def zq_Ok (op tg sr se : Nat → Int32) (n : Nat) : Prop := ∀ k, k < n → (∃ o : Nat, o < 8 ∧ op k = nI o) ∧ zq_ref (tg k) ∧ zq_ref (sr k) ∧ (zq_two (op k) ≠ 0 → zq_ref (se k))
section
variable {cn us sm : Int32} {M bs op tg sr se la lb ur uw : Nat → Int32}
theorem zq_one54 {post : SX → Prop} {k : Nat} {i x3 z0 : Int32} (hk : k < 5)
    (h6 : op k = 6 → post (cn, us, sm + x3 * z0, M, bs, op, tg, sr, se, la, lb, ur, uw))
    (hn : ¬ op k = 6 → post (cn, us, sm, upd M (zq_cN bs (tg k) i) (zq_res (op k) x3 z0 i), bs, op, tg, sr, se, la, lb, ur, uw)) :
    wX_oneRound_54 post (nI k) i x3 z0 cn us sm M bs op tg sr se la lb ur uw := by
  have hi : vp_in (nI k) 5 := vp_in_nI hk (by omega)
  have e : (nI k).toNatClampNeg = k := nI_clamp (by omega)
  unfold wX_oneRound_54
  rw [e]
  refine ⟨hi, br_c (fun c => nm_e (h6 c)) (fun c => ⟨hi, zq_cell ⟨hi, zq_result ⟨zq_ce_in _ _ _, nm_e (hn c)⟩⟩⟩)⟩
theorem zq_one {post : SX → Prop} {k : Nat} {i : Int32} (hk : k < 5)
    (h : post (cn, us, (zq_stp bs op tg sr se k i (M, sm)).2, (zq_stp bs op tg sr se k i (M, sm)).1, bs, op, tg, sr, se, la, lb, ur, uw)) :
    wpX_oneRound post (cn, us, sm, M, bs, op, tg, sr, se, la, lb, ur, uw) (nI k) i := by
  have hi : vp_in (nI k) 5 := vp_in_nI hk (by omega)
  have e : (nI k).toNatClampNeg = k := nI_clamp (by omega)
  unfold wpX_oneRound
  dsimp only
  rw [e]
  refine ⟨hi, zq_cell ⟨zq_ce_in _ _ _, nm_e ⟨hi, zq_takes (br_c (fun c => ⟨hi, zq_one54 hk (fun d => ?_) (fun d => ?_)⟩) (fun c => ⟨hi, zq_cell ⟨zq_ce_in _ _ _, zq_one54 hk (fun d => ?_) (fun d => ?_)⟩⟩))⟩⟩⟩
  · unfold zq_stp at h
    rw [if_pos d] at h
    exact h
  · unfold zq_stp zq_val at h
    rw [if_neg d, if_pos c] at h
    exact h
  · exfalso
    apply c
    rw [d]
    decide
  · unfold zq_stp zq_val at h
    rw [if_neg d, if_neg c] at h
    exact h
end
section
variable {tt cn : Int32} {M bs op tg sr se : Nat → Int32}
theorem zq_resY {post : Int32 → Prop} {k n : Nat} {i : Int32} (hO : zq_Ok op tg sr se n) (hk : k < n) (h5 : k < 5) (h6 : ¬ op k = 6)
    (h : post (zq_val bs op sr se M k i)) : wpY_result post (tt, cn, M, bs, op, tg, sr, se) (nI k) i := by
  have hi : vp_in (nI k) 5 := vp_in_nI h5 (by omega)
  have e : (nI k).toNatClampNeg = k := nI_clamp (by omega)
  obtain ⟨⟨o, ho, eo⟩, -, hs, hw⟩ := hO k hk
  unfold wpY_result
  dsimp only
  rw [e]
  refine ⟨hi, zq_placeR hs ⟨zq_ce_in _ _ _, nm_e ⟨hi, nm_e ⟨hi, br_c (fun c => ?_) (fun c0 => ⟨hi, br_c (fun c => ?_) (fun c5 => ⟨hi, br_c (fun c => ?_) (fun c7 => ?_)⟩)⟩)⟩⟩⟩⟩
  · unfold zq_val zq_res at h
    rw [if_pos c] at h
    exact h
  · unfold zq_val zq_res at h
    rw [c] at h
    exact h
  · unfold zq_val zq_res at h
    rw [c] at h
    exact h
  · have ht : zq_two (op k) = 1 := by
      have hc : o = 1 ∨ o = 2 ∨ o = 3 ∨ o = 4 := by
        rw [eo] at c0 c5 c7 h6
        have n0 : o ≠ 0 := fun z => c0 (by rw [z]; rfl)
        have n5 : o ≠ 5 := fun z => c5 (by rw [z]; rfl)
        have n6 : o ≠ 6 := fun z => h6 (by rw [z]; rfl)
        have n7 : o ≠ 7 := fun z => c7 (by rw [z]; rfl)
        omega
      rw [eo]
      rcases hc with rfl | rfl | rfl | rfl <;> decide
    have hr : zq_ref (se k) := hw (by rw [ht]; decide)
    rw [zq_and511 hr]
    unfold zq_val at h
    rw [if_neg (show ¬ zq_two (op k) = 0 by rw [ht]; decide)] at h
    unfold zq_res at h
    rw [if_neg c0] at h
    refine zq_placeR hr ⟨zq_ce_in _ _ _, nm_e ⟨hi, br_c (fun c => ?_) (fun c1 => ⟨hi, br_c (fun c => ?_) (fun c2 => ⟨hi, br_c (fun c => ?_) (fun c3 => ?_)⟩)⟩)⟩⟩
    · rw [if_pos c] at h
      exact h
    · rw [if_neg c1, if_neg c5, if_pos c] at h
      exact h
    · rw [if_neg c1, if_neg c5, if_neg c2, if_pos c] at h
      exact h
    · have c4 : op k = 4 := by
        rw [eo] at c0 c1 c2 c3 c5 c7 h6 ⊢
        have n0 : o ≠ 0 := fun z => c0 (by rw [z]; rfl)
        have n1 : o ≠ 1 := fun z => c1 (by rw [z]; rfl)
        have n2 : o ≠ 2 := fun z => c2 (by rw [z]; rfl)
        have n3 : o ≠ 3 := fun z => c3 (by rw [z]; rfl)
        have n5 : o ≠ 5 := fun z => c5 (by rw [z]; rfl)
        have n6 : o ≠ 6 := fun z => h6 (by rw [z]; rfl)
        have n7 : o ≠ 7 := fun z => c7 (by rw [z]; rfl)
        have : o = 4 := by omega
        rw [this]
        rfl
      rw [if_neg c1, if_neg c5, if_neg c2, if_neg c3, if_pos c4] at h
      exact h
end
end
section
/-! mayClash over the integers -/
def zq_I (x : Int) : Int32 := Int32.ofInt x
theorem zq_I_t {a : Int} (h1 : -2147483648 ≤ a) (h2 : a < 2147483648) : (zq_I a).toInt = a := Int32.toInt_ofInt_of_le (by omega) (by omega)
theorem zq_I_nat (n : Nat) : zq_I (n : Int) = nI n := Int32.ofInt_eq_ofNat
theorem zq_I_abs {a : Int} (h : 0 ≤ a) : zq_I a = nI a.natAbs := by
  rw [← zq_I_nat, Int.natAbs_of_nonneg h]
theorem zq_I_add (a b : Int) : zq_I a + zq_I b = zq_I (a + b) := (Int32.ofInt_add a b).symm
theorem zq_I_sub (a b : Int) : zq_I a - zq_I b = zq_I (a - b) := (Int32.ofInt_sub a b).symm
theorem zq_I_mul (a b : Int) : zq_I a * zq_I b = zq_I (a * b) := (Int32.ofInt_mul a b).symm
theorem zq_I_neg (a : Int) : -zq_I a = zq_I (-a) := (Int32.ofInt_neg a).symm
theorem zq_Ile {x y : Int32} {A B : Prop} (a b : Int) (f : a ≤ b → A) (g : b < a → B) (hx : x = zq_I a := by rfl) (hy : y = zq_I b := by rfl) (ha : -100000 ≤ a ∧ a ≤ 100000 := by omega) (hb : -100000 ≤ b ∧ b ≤ 100000 := by omega) : (x ≤ y → A) ∧ (¬ x ≤ y → B) := by
  subst hx hy
  rw [Int32.le_iff_toInt_le, zq_I_t (by omega) (by omega), zq_I_t (by omega) (by omega)]
  exact ⟨f, fun z => g (by omega)⟩
theorem zq_Ilt {x y : Int32} {A B : Prop} (a b : Int) (f : a < b → A) (g : b ≤ a → B) (hx : x = zq_I a := by rfl) (hy : y = zq_I b := by rfl) (ha : -100000 ≤ a ∧ a ≤ 100000 := by omega) (hb : -100000 ≤ b ∧ b ≤ 100000 := by omega) : (x < y → A) ∧ (¬ x < y → B) := by
  subst hx hy
  rw [Int32.lt_iff_toInt_lt, zq_I_t (by omega) (by omega), zq_I_t (by omega) (by omega)]
  exact ⟨f, fun z => g (by omega)⟩
theorem zq_Ieq {x y : Int32} {A B : Prop} (a b : Int) (f : a = b → A) (g : a ≠ b → B) (hx : x = zq_I a := by rfl) (hy : y = zq_I b := by rfl) (ha : -100000 ≤ a ∧ a ≤ 100000 := by omega) (hb : -100000 ≤ b ∧ b ≤ 100000 := by omega) : (x = y → A) ∧ (¬ x = y → B) := by
  subst hx hy
  rw [← Int32.toInt_inj, zq_I_t (by omega) (by omega), zq_I_t (by omega) (by omega)]
  exact ⟨f, g⟩
section
variable {cn us sm : Int32} {M bs op tg sr se la lb ur uw : Nat → Int32} {post : Int32 → Prop}
theorem zq_mc236 {g w : Nat} (hg : g < 1000) (hw : 0 < w) (hw2 : w < 1000) (h1 : post 1) (h0 : g % w ≠ 0 → post 0) : wX_mayClash_236 post (nI w) (nI g) cn us sm M bs op tg sr se la lb ur uw := by
  unfold wX_mayClash_236
  rw [pk_rem (by omega) hw (by omega)]
  have hm := Nat.mod_lt g hw
  exact ⟨nI_ne0 hw (by omega), pk_eq (g % w) 0 (fun _ => h1) (fun e => h0 e) rfl rfl (by omega) (by omega)⟩
theorem zq_mc216 {g w : Nat} (hg : g < 1000) (hw : 0 < w) (hw2 : w < 1000) (h1 : post 1) (h0 : g % w ≠ 0 → post 0) : wX_mayClash_216 post (nI g) (nI w) 1 cn us sm M bs op tg sr se la lb ur uw := by
  unfold wX_mayClash_216
  exact br_f (by decide) (pk_le w 0 (fun c => absurd c (by omega)) (fun c => zq_mc236 hg hw hw2 h1 h0))
theorem zq_mc215 {x y : Int32} (h1 : post 1) : wX_mayClash_215 post x y cn us sm M bs op tg sr se la lb ur uw := by
  unfold wX_mayClash_215 wX_mayClash_216
  exact br_t rfl h1
theorem zq_mc188 {s z : Int} {g w : Nat} (hg : g < 1000) (hw2 : w < 1000) (hs : -10 ≤ s ∧ s ≤ 10) (hz : -10 ≤ z ∧ z ≤ 10) (h1 : post 1) (h0 : 2 ≤ w → (s = z ∨ s = -z) → g % w ≠ 0 → post 0) : wX_mayClash_188 post (zq_I s) (zq_I z) (nI g) (nI w) cn us sm M bs op tg sr se la lb ur uw := by
  unfold wX_mayClash_188 wX_mayClash_211
  exact pk_le w 1 (fun c => zq_mc215 h1) (fun c => zq_Ieq s z (fun e => zq_mc216 hg (by omega) hw2 h1 (h0 (by omega) (Or.inl e))) (fun e => zq_Ieq s (-z) (fun e => zq_mc216 hg (by omega) hw2 h1 (h0 (by omega) (Or.inr e))) (fun e => zq_mc215 h1) rfl (zq_I_neg z)))
theorem zq_mc173 {s z : Int} {g : Nat} (hg : g < 1000) (hs : -10 ≤ s ∧ s ≤ 10) (hz : -10 ≤ z ∧ z ≤ 10) (h1 : post 1) (h0 : 2 ≤ s.natAbs → (s = z ∨ s = -z) → g % s.natAbs ≠ 0 → post 0) : wX_mayClash_173 post (zq_I s) (zq_I z) (nI g) cn us sm M bs op tg sr se la lb ur uw := by
  have K := zq_mc188 (cn := cn) (us := us) (sm := sm) (M := M) (bs := bs) (op := op) (tg := tg) (sr := sr) (se := se) (la := la) (lb := lb) (ur := ur) (uw := uw) (post := post) hg (show s.natAbs < 1000 by omega) hs hz h1 h0
  unfold wX_mayClash_173
  refine zq_Ile 0 s (fun c => ?_) (fun c => ?_)
  · rw [← zq_I_abs c] at K
    exact K
  · have e : -zq_I s = nI s.natAbs := by rw [zq_I_neg, zq_I_abs (by omega), Int.natAbs_neg]
    rw [e]
    exact K
/-- the borders that let mayClash answer no -/
def zq_D (a s b z l h l' h' : Int) : Prop := h < l' ∨ h' < l ∨ (2 ≤ s.natAbs ∧ (s = z ∨ s = -z) ∧ (a - b).natAbs % s.natAbs ≠ 0)
theorem zq_mc135 {a s b z l h l' h' : Int} (ha : -500 < a ∧ a < 500) (hb : -499 < b ∧ b < 500) (hs : -10 ≤ s ∧ s ≤ 10) (hz : -10 ≤ z ∧ z ≤ 10)
    (hl : -1000 ≤ l ∧ l ≤ 1000) (hh : -1000 ≤ h ∧ h ≤ 1000) (hl' : -1000 ≤ l' ∧ l' ≤ 1000) (hh' : -1000 ≤ h' ∧ h' ≤ 1000)
    (h1 : post 1) (h0 : zq_D a s b z l h l' h' → post 0) : wX_mayClash_135 post (zq_I a) (zq_I b) (zq_I s) (zq_I z) (zq_I l) (zq_I h) (zq_I l') (zq_I h') cn us sm M bs op tg sr se la lb ur uw := by
  have K := zq_mc173 (cn := cn) (us := us) (sm := sm) (M := M) (bs := bs) (op := op) (tg := tg) (sr := sr) (se := se) (la := la) (lb := lb) (ur := ur) (uw := uw) (post := post) (show (a - b).natAbs < 1000 by omega) hs hz h1 (fun x y w => h0 (Or.inr (Or.inr ⟨x, y, w⟩)))
  unfold wX_mayClash_135
  refine zq_Ilt h l' (fun c => h0 (Or.inl c)) (fun c => zq_Ile l h' (fun d => zq_Ile b a (fun e => ?_) (fun e => ?_)) (fun d => h0 (Or.inr (Or.inl d))))
  · rw [zq_I_sub, zq_I_abs (a := a - b) (by omega)]
    exact K
  · rw [zq_I_sub, zq_I_abs (a := b - a) (by omega), show (b - a).natAbs = (a - b).natAbs by omega]
    exact K
theorem zq_mc51 {a s b z : Int} {t : Nat} (ht : 0 < t ∧ t ≤ 40) (ha : 0 ≤ a ∧ a < 100) (hb : 0 ≤ b ∧ b < 100) (hs : -3 ≤ s ∧ s ≤ 4) (hz : -3 ≤ z ∧ z ≤ 4)
    (hA : -500 ≤ a + s * ((t : Int) - 1) ∧ a + s * ((t : Int) - 1) ≤ 500) (hB : -500 ≤ b + z * ((t : Int) - 1) ∧ b + z * ((t : Int) - 1) ≤ 500)
    (h1 : post 1) (h0 : ∀ l h l' h' : Int, l ≤ a → l ≤ a + s * ((t : Int) - 1) → a ≤ h → a + s * ((t : Int) - 1) ≤ h → l' ≤ b → l' ≤ b + z * ((t : Int) - 1) → b ≤ h' → b + z * ((t : Int) - 1) ≤ h' → zq_D a s b z l h l' h' → post 0) :
    wX_mayClash_51 post (nI t) (zq_I a) (zq_I b) (zq_I s) (zq_I z) cn us sm M bs op tg sr se la lb ur uw := by
  have et : nI t - 1 = zq_I ((t : Int) - 1) := by
    rw [← zq_I_sub, zq_I_nat]
    rfl
  have eA : zq_I a + zq_I s * (nI t - 1) = zq_I (a + s * ((t : Int) - 1)) := by rw [et, zq_I_mul, zq_I_add]
  have eB : zq_I b + zq_I z * (nI t - 1) = zq_I (b + z * ((t : Int) - 1)) := by rw [et, zq_I_mul, zq_I_add]
  generalize a + s * ((t : Int) - 1) = A at *
  generalize b + z * ((t : Int) - 1) = B at *
  unfold wX_mayClash_51
  refine nm_r eA (nm_r eB ?_)
  unfold wX_mayClash_87 wX_mayClash_103 wX_mayClash_119
  refine zq_Ile A a (fun c => ?_) (fun c => ?_)
  · refine zq_Ile A a (fun _ => ?_) (fun d => absurd d (by omega))
    refine zq_Ile B b (fun d => ?_) (fun d => ?_)
    · refine zq_Ile B b (fun _ => ?_) (fun e => absurd e (by omega))
      exact zq_mc135 (by omega) (by omega) (by omega) (by omega) (by omega) (by omega) (by omega) (by omega) h1 (h0 A a B b (by omega) (by omega) (by omega) (by omega) (by omega) (by omega) (by omega) (by omega))
    · refine zq_Ile B b (fun e => absurd e (by omega)) (fun _ => ?_)
      exact zq_mc135 (by omega) (by omega) (by omega) (by omega) (by omega) (by omega) (by omega) (by omega) h1 (h0 A a b B (by omega) (by omega) (by omega) (by omega) (by omega) (by omega) (by omega) (by omega))
  · refine zq_Ile A a (fun d => absurd d (by omega)) (fun _ => ?_)
    refine zq_Ile B b (fun d => ?_) (fun d => ?_)
    · refine zq_Ile B b (fun _ => ?_) (fun e => absurd e (by omega))
      exact zq_mc135 (by omega) (by omega) (by omega) (by omega) (by omega) (by omega) (by omega) (by omega) h1 (h0 a A B b (by omega) (by omega) (by omega) (by omega) (by omega) (by omega) (by omega) (by omega))
    · refine zq_Ile B b (fun e => absurd e (by omega)) (fun _ => ?_)
      exact zq_mc135 (by omega) (by omega) (by omega) (by omega) (by omega) (by omega) (by omega) (by omega) h1 (h0 a A b B (by omega) (by omega) (by omega) (by omega) (by omega) (by omega) (by omega) (by omega))
end
/-! what a 'no' means: no common cell in different rounds -/
theorem zq_btw {a s T l h i : Int} (hl : l ≤ a) (hle : l ≤ a + s * (T - 1)) (hh : a ≤ h) (hhe : a + s * (T - 1) ≤ h) (i0 : 0 ≤ i) (iT : i ≤ T - 1) : l ≤ a + s * i ∧ a + s * i ≤ h := by
  rcases Int.le_total 0 s with hs | hs
  · have h1 : s * i ≤ s * (T - 1) := Int.mul_le_mul_of_nonneg_left iT hs
    have h2 : 0 ≤ s * i := Int.mul_nonneg hs i0
    generalize s * i = u at *
    generalize s * (T - 1) = v at *
    omega
  · have h1 : s * (T - 1) ≤ s * i := Int.mul_le_mul_of_nonpos_left hs iT
    have h2 : s * i ≤ s * 0 := Int.mul_le_mul_of_nonpos_left hs i0
    rw [Int.mul_zero] at h2
    generalize s * i = u at *
    generalize s * (T - 1) = v at *
    omega
theorem zq_ncmod {a s b z i j : Int} (h : s = z ∨ s = -z) (hm : (a - b).natAbs % s.natAbs ≠ 0) : a + s * i ≠ b + z * j := by
  intro e
  apply hm
  apply Nat.mod_eq_zero_of_dvd
  apply Int.natAbs_dvd_natAbs.mpr
  rcases h with rfl | rfl
  · exact ⟨j - i, by rw [Int.mul_sub]; omega⟩
  · exact ⟨-j - i, by rw [Int.mul_sub, Int.neg_mul_neg]; omega⟩
/-- no common cell in different rounds, over the integers -/
def zq_NI (T a s b z : Int) : Prop := ∀ i j : Int, 0 ≤ i → i ≤ T - 1 → 0 ≤ j → j ≤ T - 1 → i ≠ j → a + s * i ≠ b + z * j
theorem zq_NI_D {T a s b z l h l' h' : Int} (h1 : l ≤ a) (h2 : l ≤ a + s * (T - 1)) (h3 : a ≤ h) (h4 : a + s * (T - 1) ≤ h) (h5 : l' ≤ b) (h6 : l' ≤ b + z * (T - 1)) (h7 : b ≤ h') (h8 : b + z * (T - 1) ≤ h') (hD : zq_D a s b z l h l' h') : zq_NI T a s b z := by
  intro i j i0 iT j0 jT _
  have ba := zq_btw h1 h2 h3 h4 i0 iT
  have bb := zq_btw h5 h6 h7 h8 j0 jT
  rcases hD with hD | hD | ⟨_, hsz, hm⟩
  · omega
  · omega
  · exact zq_ncmod hsz hm
theorem zq_NI_s {T a s : Int} (hs : s ≠ 0) : zq_NI T a s a s := by
  intro i j _ _ _ _ hij e
  exact hij (Int.eq_of_mul_eq_mul_left hs (by omega))
section
variable {cn us sm : Int32} {M bs op tg sr se la lb ur uw : Nat → Int32} {post : Int32 → Prop}
theorem zq_mc {a s b z : Int} {t : Nat} {p q : Int32} (ht : 0 < t ∧ t ≤ 40) (ha : 0 ≤ a ∧ a < 100) (hb : 0 ≤ b ∧ b < 100) (hs : -3 ≤ s ∧ s ≤ 4) (hz : -3 ≤ z ∧ z ≤ 4)
    (hA : -500 ≤ a + s * ((t : Int) - 1) ∧ a + s * ((t : Int) - 1) ≤ 500) (hB : -500 ≤ b + z * ((t : Int) - 1) ∧ b + z * ((t : Int) - 1) ≤ 500)
    (p1 : zq_st bs p = zq_I a) (p2 : zq_sd p = zq_I s) (q1 : zq_st bs q = zq_I b) (q2 : zq_sd q = zq_I z)
    (h1 : post 1) (h0 : zq_NI t a s b z → post 0) : wpX_mayClash post (cn, us, sm, M, bs, op, tg, sr, se, la, lb, ur, uw) p q (nI t) := by
  have K : wX_mayClash_51 post (nI t) (zq_I a) (zq_I b) (zq_I s) (zq_I z) cn us sm M bs op tg sr se la lb ur uw :=
    zq_mc51 ht ha hb hs hz hA hB h1 (fun l h l' h' x1 x2 x3 x4 x5 x6 x7 x8 D => h0 (zq_NI_D x1 x2 x3 x4 x5 x6 x7 x8 D))
  unfold wpX_mayClash
  refine zq_start (zq_start (zq_stride (zq_stride ?_)))
  rw [p1, p2, q1, q2]
  exact zq_Ieq a b (fun e => zq_Ieq s z (fun e2 => zq_Ieq s 0 (fun _ => h1) (fun e3 => h0 (by rw [← e, ← e2]; exact zq_NI_s e3))) (fun _ => K)) (fun _ => K)
end
end
section
/-! listUses: the list of uses; what a list without clash says -/
def zq_sg (op tg sr se : Nat → Int32) (k : Nat) : List (Int32 × Int32) :=
  ((if op k = 6 then [] else [(tg k, 1)]) ++ (if op k = 7 then [] else [(sr k, 0)])) ++ (if zq_two (op k) = 0 then [] else [(se k, 0)])
def zq_us (op tg sr se : Nat → Int32) : Nat → List (Int32 × Int32)
  | 0 => []
  | k + 1 => zq_us op tg sr se k ++ zq_sg op tg sr se k
theorem zq_ifl {α : Type} (c : Prop) [Decidable c] (x : α) : (if c then [] else [x]).length ≤ 1 := by
  by_cases h : c
  · rw [if_pos h]; exact Nat.zero_le _
  · rw [if_neg h]; exact Nat.le_refl _
theorem zq_usl (op tg sr se : Nat → Int32) : ∀ k, (zq_us op tg sr se k).length ≤ 3 * k := by
  intro k
  induction k with
  | zero => exact Nat.le_refl _
  | succ k ih =>
    have a := zq_ifl (op k = 6) ((tg k, (1 : Int32)))
    have b := zq_ifl (op k = 7) ((sr k, (0 : Int32)))
    have c := zq_ifl (zq_two (op k) = 0) ((se k, (0 : Int32)))
    show (zq_us op tg sr se k ++ zq_sg op tg sr se k).length ≤ _
    unfold zq_sg
    rw [List.length_append, List.length_append, List.length_append]
    omega
def zq_H (ur uw : Nat → Int32) (L : List (Int32 × Int32)) : Prop := ∀ p (h : p < L.length), ur p = L[p].1 ∧ uw p = L[p].2
theorem zq_H_put {ur uw : Nat → Int32} {L : List (Int32 × Int32)} (h : zq_H ur uw L) (r w : Int32) : zq_H (upd ur L.length r) (upd uw L.length w) (L ++ [(r, w)]) := by
  intro p hp
  have hp' : p < L.length + 1 := by simpa using hp
  by_cases e : p < L.length
  · rw [List.getElem_append_left e, pk_un (by omega), pk_un (by omega)]
    exact h p e
  · have e2 : p = L.length := by omega
    subst e2
    rw [pk_us, pk_us]
    simp
section
variable {cn us sm : Int32} {M bs op tg sr se la lb ur uw : Nat → Int32}
theorem zq_use {post : SX → Prop} {L : List (Int32 × Int32)} (h15 : L.length < 15) (hH : zq_H ur uw L) (r w : Int32) (hw : w = 0 ∨ w = 1)
    (h : ∀ ur' uw', zq_H ur' uw' (L ++ [(r, w)]) → post (cn, nI (L ++ [(r, w)]).length, sm, M, bs, op, tg, sr, se, la, lb, ur', uw')) :
    wpX_use post (cn, nI L.length, sm, M, bs, op, tg, sr, se, la, lb, ur, uw) r w := by
  have hi : vp_in (nI L.length) 15 := vp_in_nI h15 (by omega)
  have e : (nI L.length).toNatClampNeg = L.length := nI_clamp (by omega)
  have en : nI L.length + 1 = nI (L ++ [(r, w)]).length := by rw [nI_1, List.length_append]; rfl
  unfold wpX_use
  dsimp only
  rw [e]
  refine ⟨hi, nm_e ⟨hi, nm_r (e' := upd uw L.length w) ?_ (nm_r en (h _ _ (zq_H_put hH r w)))⟩⟩
  rcases hw with rfl | rfl <;> rfl
theorem zq_lu59 {post : SX → Prop} {J : Int32 → Int32 → Int32 → Int32 → (Nat → Int32) → (Nat → Int32) → (Nat → Int32) → (Nat → Int32) → (Nat → Int32) → (Nat → Int32) → (Nat → Int32) → (Nat → Int32) → (Nat → Int32) → (Nat → Int32) → Prop} {L : List (Int32 × Int32)} {k : Nat} (hk : k < 5) (hL : L.length < 15) (hH : zq_H ur uw L)
    (hJ : ∀ ur' uw', zq_H ur' uw' (L ++ (if zq_two (op k) = 0 then [] else [(se k, 0)])) → J (nI (k + 1)) cn (nI (L ++ (if zq_two (op k) = 0 then [] else [(se k, 0)])).length) sm M bs op tg sr se la lb ur' uw') :
    wX_listUses_59 post J (nI k) cn (nI L.length) sm M bs op tg sr se la lb ur uw := by
  have hi : vp_in (nI k) 5 := vp_in_nI hk (by omega)
  have e : (nI k).toNatClampNeg = k := nI_clamp (by omega)
  unfold wX_listUses_59
  rw [e]
  refine ⟨hi, zq_takes (br_c (fun c => nm_r (nI_1 k) ?_) (fun c => ⟨hi, zq_use hL hH _ _ (Or.inl rfl) (fun ur' uw' h' => nm_r (nI_1 k) ?_)⟩))⟩
  · have K := hJ ur uw
    rw [if_pos c, List.append_nil] at K
    exact K hH
  · have K := hJ ur' uw'
    rw [if_neg c] at K
    exact K h'
theorem zq_lu37 {post : SX → Prop} {J : Int32 → Int32 → Int32 → Int32 → (Nat → Int32) → (Nat → Int32) → (Nat → Int32) → (Nat → Int32) → (Nat → Int32) → (Nat → Int32) → (Nat → Int32) → (Nat → Int32) → (Nat → Int32) → (Nat → Int32) → Prop} {L : List (Int32 × Int32)} {k : Nat} (hk : k < 5) (hL : L.length < 14) (hH : zq_H ur uw L)
    (hJ : ∀ ur' uw', zq_H ur' uw' ((L ++ (if op k = 7 then [] else [(sr k, 0)])) ++ (if zq_two (op k) = 0 then [] else [(se k, 0)])) → J (nI (k + 1)) cn (nI ((L ++ (if op k = 7 then [] else [(sr k, 0)])) ++ (if zq_two (op k) = 0 then [] else [(se k, 0)])).length) sm M bs op tg sr se la lb ur' uw') :
    wX_listUses_37 post J (nI k) cn (nI L.length) sm M bs op tg sr se la lb ur uw := by
  have hi : vp_in (nI k) 5 := vp_in_nI hk (by omega)
  have e : (nI k).toNatClampNeg = k := nI_clamp (by omega)
  unfold wX_listUses_37
  rw [e]
  refine ⟨hi, br_c (fun c => ?_) (fun c => ⟨hi, zq_use (by omega) hH _ _ (Or.inl rfl) (fun ur' uw' h' => ?_)⟩)⟩
  · rw [if_pos c, List.append_nil] at hJ
    exact zq_lu59 hk (by omega) hH hJ
  · rw [if_neg c] at hJ
    exact zq_lu59 hk (by rw [List.length_append]; exact Nat.succ_lt_succ hL) h' hJ
theorem zq_lu7 {post : SX → Prop} {n : Nat} (hn : n ≤ 5)
    (h : ∀ ur' uw', zq_H ur' uw' (zq_us op tg sr se n) → post (nI n, nI (zq_us op tg sr se n).length, sm, M, bs, op, tg, sr, se, la, lb, ur', uw')) :
    ∀ d k ur uw, k + d = n → zq_H ur uw (zq_us op tg sr se k) → wX_listUses_7 post (d + 1) (nI k) (nI n) (nI (zq_us op tg sr se k).length) sm M bs op tg sr se la lb ur uw := by
  intro d
  induction d with
  | zero =>
    intro k ur uw hk hH
    obtain rfl : k = n := by omega
    exact br_t (nI_le (Nat.le_refl _) (by omega)) (h _ _ hH)
  | succ d ih =>
    intro k ur uw hk hH
    have hl := zq_usl op tg sr se k
    have hi : vp_in (nI k) 5 := vp_in_nI (by omega) (by omega)
    have e : (nI k).toNatClampNeg = k := nI_clamp (by omega)
    have K : ∀ ur' uw', zq_H ur' uw' (zq_us op tg sr se k ++ zq_sg op tg sr se k) → wX_listUses_7 post (d + 1) (nI (k + 1)) (nI n) (nI (zq_us op tg sr se k ++ zq_sg op tg sr se k).length) sm M bs op tg sr se la lb ur' uw' := fun ur' uw' h' => ih (k + 1) ur' uw' (by omega) h'
    unfold zq_sg at K
    rw [← List.append_assoc, ← List.append_assoc] at K
    rw [wX_listUses_7]
    dsimp only
    rw [e]
    refine br_f (nI_ge (by omega) (by omega)) ⟨hi, br_c (fun c => ?_) (fun c => ⟨hi, zq_use (by omega) hH _ _ (Or.inr rfl) (fun ur' uw' h' => ?_)⟩)⟩
    · rw [if_pos c, List.append_nil] at K
      exact zq_lu37 (by omega) (by omega) hH K
    · rw [if_neg c] at K
      exact zq_lu37 (by omega) (by rw [List.length_append]; exact Nat.succ_lt_succ (by omega)) h' K
theorem zq_list {post : SX → Prop} {n : Nat} (hn : n ≤ 5)
    (h : ∀ ur' uw', zq_H ur' uw' (zq_us op tg sr se n) → post (nI n, nI (zq_us op tg sr se n).length, sm, M, bs, op, tg, sr, se, la, lb, ur', uw')) :
    wpX_listUses post (nI n, us, sm, M, bs, op, tg, sr, se, la, lb, ur, uw) :=
  Exists.intro (n + 1) (zq_lu7 hn h n 0 ur uw (by omega) (fun p hp => absurd hp (Nat.not_lt_zero p)))
end
/-! the starts and ends of uses that lie within, their cells -/
def zq_Bs (bs : Nat → Int32) : Prop := ∀ j, j < 4 → ∃ b : Nat, b < 64 ∧ bs j = nI b
def zq_In (bs : Nat → Int32) (t : Nat) (r : Int32) : Prop := ¬ zq_st bs r < 0 ∧ ¬ 64 ≤ zq_st bs r ∧ ¬ zq_st bs r + zq_sd r * (nI t - 1) < 0 ∧ zq_st bs r + zq_sd r * (nI t - 1) < 64
def zq_NC (bs : Nat → Int32) (t : Nat) (r r' : Int32) : Prop := ∀ i j, i < t → j < t → i ≠ j → zq_cN bs r (nI i) ≠ zq_cN bs r' (nI j)
theorem zq_st_I {bs : Nat → Int32} (hB : zq_Bs bs) (r : Int32) : ∃ a : Int, 0 ≤ a ∧ a < 79 ∧ zq_st bs r = zq_I a := by
  obtain ⟨j, hj, ej⟩ := pk_andE (r >>> ((7 : Int32) &&& 31)) (m := 3) 2 (by decide)
  obtain ⟨o, ho, eo⟩ := pk_andE r (m := 15) 4 (by decide)
  obtain ⟨b, hb, eb⟩ := hB j hj
  refine ⟨((b + o : Nat) : Int), by omega, by omega, ?_⟩
  unfold zq_st
  rw [ej, eo, nI_clamp (by omega), eb, nI_add, zq_I_nat]
theorem zq_sd_I (r : Int32) : ∃ s : Int, -3 ≤ s ∧ s ≤ 4 ∧ zq_sd r = zq_I s := by
  obtain ⟨j, hj, ej⟩ := pk_andE (r >>> ((4 : Int32) &&& 31)) (m := 7) 3 (by decide)
  refine ⟨(j : Int) - 3, by omega, by omega, ?_⟩
  unfold zq_sd
  rw [ej, ← zq_I_sub, zq_I_nat]
  rfl
theorem zq_mulb {s : Int} {t : Nat} (hs : -3 ≤ s ∧ s ≤ 4) (ht : 0 < t ∧ t ≤ 40) : -200 ≤ s * ((t : Int) - 1) ∧ s * ((t : Int) - 1) ≤ 200 := by
  have h : s = -3 ∨ s = -2 ∨ s = -1 ∨ s = 0 ∨ s = 1 ∨ s = 2 ∨ s = 3 ∨ s = 4 := by omega
  rcases h with rfl | rfl | rfl | rfl | rfl | rfl | rfl | rfl <;> omega
theorem zq_In_dec {bs : Nat → Int32} {t : Nat} {r : Int32} (hB : zq_Bs bs) (ht : 0 < t ∧ t ≤ 40) (h : zq_In bs t r) :
    ∃ a s : Int, zq_st bs r = zq_I a ∧ zq_sd r = zq_I s ∧ (0 ≤ a ∧ a < 64) ∧ (-3 ≤ s ∧ s ≤ 4) ∧ (0 ≤ a + s * ((t : Int) - 1) ∧ a + s * ((t : Int) - 1) < 64) := by
  obtain ⟨a, a0, a1, ea⟩ := zq_st_I hB r
  obtain ⟨s, s0, s1, es⟩ := zq_sd_I r
  have hm := zq_mulb ⟨s0, s1⟩ ht
  have et : nI t - 1 = zq_I ((t : Int) - 1) := by
    rw [← zq_I_sub, zq_I_nat]
    rfl
  unfold zq_In at h
  rw [ea, es, et, zq_I_mul, zq_I_add] at h
  refine ⟨a, s, ea, es, ?_⟩
  generalize s * ((t : Int) - 1) = v at *
  have e0 : (0 : Int32) = zq_I 0 := rfl
  have e64 : (64 : Int32) = zq_I 64 := rfl
  rw [e0, e64, Int32.lt_iff_toInt_lt, Int32.le_iff_toInt_le, Int32.lt_iff_toInt_lt, Int32.lt_iff_toInt_lt, zq_I_t (by omega) (by omega), zq_I_t (by omega) (by omega), zq_I_t (by omega) (by omega), zq_I_t (by omega) (by omega)] at h
  omega
theorem zq_cN_I {bs : Nat → Int32} {r : Int32} {a s : Int} {i : Nat} (p1 : zq_st bs r = zq_I a) (p2 : zq_sd r = zq_I s) (h : 0 ≤ a + s * (i : Int) ∧ a + s * (i : Int) < 64) : zq_cN bs r (nI i) = (a + s * (i : Int)).natAbs := by
  unfold zq_cN zq_ce
  rw [p1, p2, ← zq_I_nat, zq_I_mul, zq_I_add, zq_I_abs h.1]
  generalize a + s * (i : Int) = v at *
  rw [pk_andN (by omega) 6 (by decide), nI_clamp (by omega)]
  omega
theorem zq_NC_of {bs : Nat → Int32} {t : Nat} {p q : Int32} {a s b z : Int} (p1 : zq_st bs p = zq_I a) (p2 : zq_sd p = zq_I s) (q1 : zq_st bs q = zq_I b) (q2 : zq_sd q = zq_I z)
    (ha : 0 ≤ a ∧ a < 64) (hA : 0 ≤ a + s * ((t : Int) - 1) ∧ a + s * ((t : Int) - 1) < 64) (hb : 0 ≤ b ∧ b < 64) (hB : 0 ≤ b + z * ((t : Int) - 1) ∧ b + z * ((t : Int) - 1) < 64)
    (h : zq_NI t a s b z) : zq_NC bs t p q := by
  intro i j hi hj hij
  have k1 := zq_btw (l := 0) (h := 63) (i := (i : Int)) ha.1 hA.1 (by omega) (by omega) (by omega) (by omega)
  have k2 := zq_btw (l := 0) (h := 63) (i := (j : Int)) hb.1 hB.1 (by omega) (by omega) (by omega) (by omega)
  have k3 := h i j (by omega) (by omega) (by omega) (by omega) (by omega)
  rw [zq_cN_I p1 p2 ⟨k1.1, by omega⟩, zq_cN_I q1 q2 ⟨k2.1, by omega⟩]
  generalize a + s * (i : Int) = u at *
  generalize b + z * (j : Int) = v at *
  omega
section
variable {cn us sm : Int32} {M bs op tg sr se la lb ur uw : Nat → Int32}
theorem zq_mcS {post : Int32 → Prop} {t : Nat} {p q : Int32} (hB : zq_Bs bs) (ht : 0 < t ∧ t ≤ 40) (hp : zq_In bs t p) (hq : zq_In bs t q) (h1 : post 1) (h0 : zq_NC bs t p q → post 0) :
    wpX_mayClash post (cn, us, sm, M, bs, op, tg, sr, se, la, lb, ur, uw) p q (nI t) := by
  obtain ⟨a, s, p1, p2, ha, hs, hA⟩ := zq_In_dec hB ht hp
  obtain ⟨b, z, q1, q2, hb, hz, hBe⟩ := zq_In_dec hB ht hq
  exact zq_mc ht ⟨ha.1, by omega⟩ ⟨hb.1, by omega⟩ hs hz ⟨by omega, by omega⟩ ⟨by omega, by omega⟩ p1 p2 q1 q2 h1 (fun N => h0 (zq_NC_of p1 p2 q1 q2 ha hA hb hBe N))
end
end
section
/-! isSafe: its loops; what its yes says of the statements -/
section
variable {cn sm : Int32} {M bs op tg sr se la lb ur uw : Nat → Int32} {post : Int32 → SX → Prop} {t N : Nat}
theorem zq_sf84 {J : Int32 → Prop} {p : Nat} (hN : N ≤ 15) (hp : p < N) (hB : zq_Bs bs) (ht : 0 < t ∧ t ≤ 40)
    (h0 : post 0 (cn, nI N, sm, M, bs, op, tg, sr, se, la, lb, ur, uw)) (hI : ∀ q, q < N → zq_In bs t (ur q))
    (hJ : (∀ q, q < N → p ≠ q → uw p ≠ 0 → zq_NC bs t (ur p) (ur q)) → J (nI (p + 1))) :
    ∀ d q, q + d = N → (∀ q', q' < q → p ≠ q' → uw p ≠ 0 → zq_NC bs t (ur p) (ur q')) → wX_isSafe_84 post J (nI t) (nI p) cn (nI N) sm M bs op tg sr se la lb ur uw (d + 1) (nI q) := by
  intro d
  induction d with
  | zero =>
    intro q hq hA
    obtain rfl : q = N := by omega
    rw [wX_isSafe_84]
    exact br_t (nI_le (Nat.le_refl _) (by omega)) (nm_r (nI_1 p) (hJ hA))
  | succ d ih =>
    intro q hq hA
    have ep : (nI p).toNatClampNeg = p := nI_clamp (by omega)
    have eq : (nI q).toNatClampNeg = q := nI_clamp (by omega)
    have hip : vp_in (nI p) 15 := vp_in_nI (by omega) (by omega)
    have hiq : vp_in (nI q) 15 := vp_in_nI (by omega) (by omega)
    rw [wX_isSafe_84]
    try dsimp only
    rw [ep, eq]
    have K : (p ≠ q → uw p ≠ 0 → zq_NC bs t (ur p) (ur q)) → wX_isSafe_84 post J (nI t) (nI p) cn (nI N) sm M bs op tg sr se la lb ur uw (d + 1) (nI (q + 1)) := by
      intro hx
      refine ih (q + 1) (by omega) (fun q' hq' => ?_)
      by_cases e : q' = q
      · rw [e]; exact hx
      · exact hA q' (by omega)
    refine br_f (nI_ge (by omega) (by omega)) (pk_eq p q (fun e => nm_r (nI_1 q) (K (fun x => absurd e x))) (fun e => ⟨hip, br_c (fun c => nm_r (nI_1 q) (K (fun _ x => absurd c x))) (fun c => ⟨hip, hiq, ?_⟩)⟩))
    exact zq_mcS hB ht (hI p hp) (hI q (by omega)) (br_f (by decide) h0) (fun nc => br_t rfl (nm_r (nI_1 q) (K (fun _ _ => nc))))
theorem zq_sf74 (hN : N ≤ 15) (hB : zq_Bs bs) (ht : 0 < t ∧ t ≤ 40)
    (h0 : post 0 (cn, nI N, sm, M, bs, op, tg, sr, se, la, lb, ur, uw)) (hI : ∀ q, q < N → zq_In bs t (ur q))
    (h1 : (∀ p q, p < N → q < N → p ≠ q → uw p ≠ 0 → zq_NC bs t (ur p) (ur q)) → post 1 (cn, nI N, sm, M, bs, op, tg, sr, se, la, lb, ur, uw)) :
    ∀ d p, p + d = N → (∀ p' q, p' < p → q < N → p' ≠ q → uw p' ≠ 0 → zq_NC bs t (ur p') (ur q)) → wX_isSafe_74 post (nI t) cn (nI N) sm M bs op tg sr se la lb ur uw (d + 1) (nI p) := by
  intro d
  induction d with
  | zero =>
    intro p hp hA
    obtain rfl : p = N := by omega
    rw [wX_isSafe_74]
    exact br_t (nI_le (Nat.le_refl _) (by omega)) (h1 hA)
  | succ d ih =>
    intro p hp hA
    rw [wX_isSafe_74]
    refine br_f (nI_ge (by omega) (by omega)) ⟨N + 1, zq_sf84 hN (by omega) hB ht h0 hI (fun hx => ?_) N 0 (by omega) (fun q' h => absurd h (Nat.not_lt_zero _))⟩
    refine ih (p + 1) (by omega) (fun p' q hp' hq => ?_)
    by_cases e : p' = p
    · rw [e]; exact hx q hq
    · exact hA p' q (by omega) hq
theorem zq_sf6 (hN : N ≤ 15) (hB : zq_Bs bs) (ht : 0 < t ∧ t ≤ 40)
    (h0 : post 0 (cn, nI N, sm, M, bs, op, tg, sr, se, la, lb, ur, uw))
    (h1 : (∀ p q, p < N → q < N → p ≠ q → uw p ≠ 0 → zq_NC bs t (ur p) (ur q)) → post 1 (cn, nI N, sm, M, bs, op, tg, sr, se, la, lb, ur, uw)) :
    ∀ d p, p + d = N → (∀ p', p' < p → zq_In bs t (ur p')) → wX_isSafe_6 post (nI t) cn (nI N) sm M bs op tg sr se la lb ur uw (d + 1) (nI p) := by
  intro d
  induction d with
  | zero =>
    intro p hp hA
    obtain rfl : p = N := by omega
    rw [wX_isSafe_6]
    exact br_t (nI_le (Nat.le_refl _) (by omega)) ⟨p + 1, zq_sf74 hN hB ht h0 hA h1 p 0 (by omega) (fun p' q h => absurd h (Nat.not_lt_zero _))⟩
  | succ d ih =>
    intro p hp hA
    have ep : (nI p).toNatClampNeg = p := nI_clamp (by omega)
    have hip : vp_in (nI p) 15 := vp_in_nI (by omega) (by omega)
    rw [wX_isSafe_6]
    try dsimp only
    rw [ep]
    refine br_f (nI_ge (by omega) (by omega)) ⟨hip, zq_start ⟨hip, zq_stride (nm_e (br_c (fun _ => h0) (fun c1 => br_c (fun _ => h0) (fun c2 => br_c (fun _ => h0) (fun c3 => br_c (fun c4 => nm_r (nI_1 p) ?_) (fun _ => h0))))))⟩⟩
    refine ih (p + 1) (by omega) (fun p' hp' => ?_)
    by_cases e : p' = p
    · rw [e]; exact ⟨c1, c2, c3, c4⟩
    · exact hA p' (by omega)
end
/-- no cell that a statement writes in one round is used in another by another use -/
def zq_Sf (bs op tg sr se : Nat → Int32) (n t : Nat) : Prop :=
  ∀ k k' i i', k < n → k' < n → i < t → i' < t → i ≠ i' → op k ≠ 6 →
    (k ≠ k' → op k' ≠ 6 → zq_cN bs (tg k) (nI i) ≠ zq_cN bs (tg k') (nI i')) ∧
    (op k' ≠ 7 → zq_cN bs (tg k) (nI i) ≠ zq_cN bs (sr k') (nI i')) ∧
    (zq_two (op k') ≠ 0 → zq_cN bs (tg k) (nI i) ≠ zq_cN bs (se k') (nI i'))
def zq_R (bs : Nat → Int32) (t : Nat) (x y : Int32 × Int32) : Prop := (x.2 ≠ 0 → zq_NC bs t x.1 y.1) ∧ (y.2 ≠ 0 → zq_NC bs t y.1 x.1)
section
variable {bs op tg sr se : Nat → Int32} {n t : Nat}
theorem zq_sgT {k : Nat} (h : op k ≠ 6) : (tg k, (1 : Int32)) ∈ zq_sg op tg sr se k := by
  unfold zq_sg
  rw [if_neg h]
  simp
theorem zq_sgS {k : Nat} (h : op k ≠ 7) : (sr k, (0 : Int32)) ∈ zq_sg op tg sr se k := by
  unfold zq_sg
  rw [if_neg h]
  simp
theorem zq_sgW {k : Nat} (h : zq_two (op k) ≠ 0) : (se k, (0 : Int32)) ∈ zq_sg op tg sr se k := by
  unfold zq_sg
  rw [if_neg h]
  simp
theorem zq_usM {x : Int32 × Int32} {k : Nat} (hx : x ∈ zq_sg op tg sr se k) : ∀ m, k < m → x ∈ zq_us op tg sr se m := by
  intro m
  induction m with
  | zero => intro h; exact absurd h (Nat.not_lt_zero _)
  | succ m ih =>
    intro h
    show x ∈ zq_us op tg sr se m ++ zq_sg op tg sr se m
    by_cases e : k = m
    · subst e
      exact List.mem_append_right _ hx
    · exact List.mem_append_left _ (ih (by omega))
theorem zq_pw : ∀ n, (zq_us op tg sr se n).Pairwise (zq_R bs t) → ∀ k, k < n → (zq_sg op tg sr se k).Pairwise (zq_R bs t) ∧ ∀ x, x ∈ zq_us op tg sr se k → ∀ y, y ∈ zq_sg op tg sr se k → zq_R bs t x y := by
  intro n
  induction n with
  | zero => intro _ k h; exact absurd h (Nat.not_lt_zero _)
  | succ n ih =>
    intro h k hk
    have h' : (zq_us op tg sr se n ++ zq_sg op tg sr se n).Pairwise (zq_R bs t) := h
    obtain ⟨a, b, c⟩ := List.pairwise_append.mp h'
    by_cases e : k = n
    · subst e
      exact ⟨b, c⟩
    · exact ih a k (by omega)
theorem zq_Sf_of (h : (zq_us op tg sr se n).Pairwise (zq_R bs t)) : zq_Sf bs op tg sr se n t := by
  have cr : ∀ k k', k < n → k' < n → k ≠ k' → ∀ x, x ∈ zq_sg op tg sr se k → ∀ y, y ∈ zq_sg op tg sr se k' → zq_R bs t x y := by
    intro k k' hk hk' hn x hx y hy
    by_cases lt : k < k'
    · exact (zq_pw n h k' hk').2 x (zq_usM hx k' lt) y hy
    · have r := (zq_pw n h k hk).2 y (zq_usM hy k (by omega)) x hx
      exact ⟨r.2, r.1⟩
  have sm : ∀ k, k < n → op k ≠ 6 → ∀ y, (y ∈ (if op k = 7 then [] else [(sr k, (0 : Int32))]) ++ (if zq_two (op k) = 0 then [] else [(se k, (0 : Int32))])) → zq_R bs t (tg k, 1) y := by
    intro k hk h6 y hy
    have r := (zq_pw n h k hk).1
    unfold zq_sg at r
    rw [if_neg h6, List.append_assoc] at r
    exact (List.pairwise_cons.mp r).1 y hy
  intro k k' i i' hk hk' hi hi' hii h6
  have o1 : (1 : Int32) ≠ 0 := by decide
  refine ⟨fun hn h6' => ?_, fun h7 => ?_, fun hw => ?_⟩
  · exact (cr k k' hk hk' hn _ (zq_sgT h6) _ (zq_sgT h6')).1 o1 i i' hi hi' hii
  · by_cases e : k = k'
    · subst e
      exact (sm k hk h6 (sr k, 0) (by rw [if_neg h7]; simp)).1 o1 i i' hi hi' hii
    · exact (cr k k' hk hk' e _ (zq_sgT h6) _ (zq_sgS h7)).1 o1 i i' hi hi' hii
  · by_cases e : k = k'
    · subst e
      exact (sm k hk h6 (se k, 0) (by rw [if_neg hw]; simp)).1 o1 i i' hi hi' hii
    · exact (cr k k' hk hk' e _ (zq_sgT h6) _ (zq_sgW hw)).1 o1 i i' hi hi' hii
theorem zq_Pw_of {L : List (Int32 × Int32)} {ur uw : Nat → Int32} (hH : zq_H ur uw L) (h : ∀ p q, p < L.length → q < L.length → p ≠ q → uw p ≠ 0 → zq_NC bs t (ur p) (ur q)) : L.Pairwise (zq_R bs t) := by
  rw [List.pairwise_iff_getElem]
  intro i j hi hj hij
  obtain ⟨a1, a2⟩ := hH i hi
  obtain ⟨b1, b2⟩ := hH j hj
  have x1 := h i j hi hj (by omega)
  have x2 := h j i hj hi (by omega)
  rw [a1, a2, b1] at x1
  rw [b1, b2, a1] at x2
  exact ⟨x1, x2⟩
end
section
variable {us sm : Int32} {M bs op tg sr se la lb ur uw : Nat → Int32} {post : Int32 → SX → Prop} {n t : Nat}
theorem zq_isSafe (hn : n ≤ 5) (hB : zq_Bs bs) (ht : 0 < t ∧ t ≤ 40)
    (h0 : ∀ us' ur' uw', post 0 (nI n, us', sm, M, bs, op, tg, sr, se, la, lb, ur', uw'))
    (h1 : zq_Sf bs op tg sr se n t → ∀ us' ur' uw', post 1 (nI n, us', sm, M, bs, op, tg, sr, se, la, lb, ur', uw')) :
    wpX_isSafe post (nI n, us, sm, M, bs, op, tg, sr, se, la, lb, ur, uw) (nI t) := by
  have hl := zq_usl op tg sr se n
  unfold wpX_isSafe
  refine zq_list hn (fun ur' uw' hH => ?_)
  exact ⟨(zq_us op tg sr se n).length + 1, zq_sf6 (by omega) hB ht (h0 _ _ _) (fun hx => h1 (zq_Sf_of (zq_Pw_of hH hx)) _ _ _) _ 0 (by omega) (fun p' h => absurd h (Nat.not_lt_zero _))⟩
end
end
section
/-! the law: statement by statement over four rounds is round by round -/
section
variable {σ : Type}
theorem zq_it_comm {F : Nat → σ → σ} {G : σ → σ} : ∀ n, (∀ k, k < n → ∀ s, G (F k s) = F k (G s)) → ∀ s, G (zq_it F n s) = zq_it F n (G s) := by
  intro n
  induction n with
  | zero => intro _ s; rfl
  | succ n ih =>
    intro h s
    show G (F n (zq_it F n s)) = F n (zq_it F n (G s))
    rw [h n (by omega), ih (fun k hk => h k (by omega))]
/-- F k j: statement k in round j -/
theorem zq_swap (F : Nat → Nat → σ → σ) : ∀ n, (∀ k k' j j', k < n → k' < n → j < 4 → j' < 4 → k ≠ k' → j ≠ j' → ∀ s, F k j (F k' j' s) = F k' j' (F k j s)) →
    ∀ s, zq_it (fun k s => zq_it (fun j s => F k j s) 4 s) n s = zq_it (fun j s => zq_it (fun k s => F k j s) n s) 4 s := by
  intro n
  induction n with
  | zero => intro _ s; rfl
  | succ n ih =>
    intro h s
    have c : ∀ j j', j < 4 → j' < 4 → j ≠ j' → ∀ s, F n j (zq_it (fun k s => F k j' s) n s) = zq_it (fun k s => F k j' s) n (F n j s) :=
      fun j j' hj hj' hn s => zq_it_comm (F := fun k s => F k j' s) (G := F n j) n (fun k hk s => h n k j j' (by omega) (by omega) hj hj' (by omega) hn s) s
    show F n 3 (F n 2 (F n 1 (F n 0 (zq_it (fun k s => zq_it (fun j s => F k j s) 4 s) n s)))) = F n 3 (zq_it (fun k s => F k 3 s) n (F n 2 (zq_it (fun k s => F k 2 s) n (F n 1 (zq_it (fun k s => F k 1 s) n (F n 0 (zq_it (fun k s => F k 0 s) n s)))))))
    rw [ih (fun k k' j j' hk hk' => h k k' j j' (by omega) (by omega))]
    show F n 3 (F n 2 (F n 1 (F n 0 (zq_it (fun k s => F k 3 s) n (zq_it (fun k s => F k 2 s) n (zq_it (fun k s => F k 1 s) n (zq_it (fun k s => F k 0 s) n s))))))) = _
    rw [c 0 3 (by omega) (by omega) (by omega), c 0 2 (by omega) (by omega) (by omega), c 0 1 (by omega) (by omega) (by omega),
      c 1 3 (by omega) (by omega) (by omega), c 1 2 (by omega) (by omega) (by omega), c 2 3 (by omega) (by omega) (by omega)]
end
theorem zq_updc {f : Nat → Int32} {a b : Nat} {x y : Int32} (h : a ≠ b) : upd (upd f a x) b y = upd (upd f b y) a x := by
  funext j
  unfold upd
  by_cases e1 : j = b
  · rw [if_pos e1, if_neg (fun e2 => h (e2.symm.trans e1)), if_pos e1]
  · rw [if_neg e1]
    by_cases e2 : j = a
    · rw [if_pos e2, if_pos e2]
    · rw [if_neg e2, if_neg e2, if_neg e1]
section
variable {bs op tg sr se : Nat → Int32} {n t : Nat}
theorem zq_valE {M M' : Nat → Int32} {k : Nat} {i : Int32} (h1 : op k ≠ 7 → M' (zq_cN bs (sr k) i) = M (zq_cN bs (sr k) i)) (h2 : zq_two (op k) ≠ 0 → M' (zq_cN bs (se k) i) = M (zq_cN bs (se k) i)) :
    zq_val bs op sr se M' k i = zq_val bs op sr se M k i := by
  unfold zq_val
  by_cases h7 : op k = 7
  · rw [h7]
    rfl
  · rw [h1 h7]
    by_cases hw : zq_two (op k) = 0
    · rw [if_pos hw, if_pos hw]
    · rw [if_neg hw, if_neg hw, h2 hw]
theorem zq_stp6 {k : Nat} {i : Int32} {s : (Nat → Int32) × Int32} (h : op k = 6) : zq_stp bs op tg sr se k i s = (s.1, s.2 + s.1 (zq_cN bs (sr k) i) * se k) := if_pos h
theorem zq_stpN {k : Nat} {i : Int32} {s : (Nat → Int32) × Int32} (h : op k ≠ 6) : zq_stp bs op tg sr se k i s = (upd s.1 (zq_cN bs (tg k) i) (zq_val bs op sr se s.1 k i), s.2) := if_neg h
theorem zq_comm (S : zq_Sf bs op tg sr se n t) {k k' i i' : Nat} (hk : k < n) (hk' : k' < n) (hi : i < t) (hi' : i' < t) (hkk : k ≠ k') (hii : i ≠ i') (s : (Nat → Int32) × Int32) :
    zq_stp bs op tg sr se k (nI i) (zq_stp bs op tg sr se k' (nI i') s) = zq_stp bs op tg sr se k' (nI i') (zq_stp bs op tg sr se k (nI i) s) := by
  have n67 : (6 : Int32) ≠ 7 := by decide
  by_cases h6 : op k = 6
  · by_cases h6' : op k' = 6
    · rw [zq_stp6 h6, zq_stp6 h6', zq_stp6 h6', zq_stp6 h6]
      refine Prod.ext rfl ?_
      show s.2 + _ + _ = s.2 + _ + _
      rw [Int32.add_assoc, Int32.add_comm (_ * se k'), ← Int32.add_assoc]
    · have q := (S k' k i' i hk' hk hi' hi (Ne.symm hii) h6').2.1 (by rw [h6]; exact n67)
      rw [zq_stp6 h6, zq_stpN h6', zq_stpN h6', zq_stp6 h6]
      refine Prod.ext rfl ?_
      show s.2 + upd _ _ _ _ * _ = s.2 + _
      rw [pk_un (Ne.symm q)]
  · by_cases h6' : op k' = 6
    · have q := (S k k' i i' hk hk' hi hi' hii h6).2.1 (by rw [h6']; exact n67)
      rw [zq_stp6 h6', zq_stpN h6, zq_stpN h6, zq_stp6 h6']
      refine Prod.ext rfl ?_
      show s.2 + _ = s.2 + upd _ _ _ _ * _
      rw [pk_un (Ne.symm q)]
    · have q := S k k' i i' hk hk' hi hi' hii h6
      have q' := S k' k i' i hk' hk hi' hi (Ne.symm hii) h6'
      rw [zq_stpN h6, zq_stpN h6', zq_stpN h6', zq_stpN h6]
      refine Prod.ext ?_ rfl
      show upd (upd s.1 _ _) _ (zq_val bs op sr se (upd s.1 _ _) k (nI i)) = upd (upd s.1 _ _) _ (zq_val bs op sr se (upd s.1 _ _) k' (nI i'))
      rw [zq_valE (M := s.1) (k := k) (fun h7 => pk_un (Ne.symm (q'.2.1 h7))) (fun hw => pk_un (Ne.symm (q'.2.2 hw))),
        zq_valE (M := s.1) (k := k') (fun h7 => pk_un (Ne.symm (q.2.1 h7))) (fun hw => pk_un (Ne.symm (q.2.2 hw)))]
      exact zq_updc (q'.1 (Ne.symm hkk) h6)
/-- what fourRounds writes -/
def zq_wr (bs op tg : Nat → Int32) (k i : Nat) (A B : Nat → Int32) (M : Nat → Int32) : Nat → (Nat → Int32)
  | 0 => M
  | j + 1 => upd (zq_wr bs op tg k i A B M j) (zq_cN bs (tg k) (nI (i + j))) (zq_res (op k) (A j) (B j) (nI (i + j)))
def zq_A (bs sr M : Nat → Int32) (k i j : Nat) : Int32 := M (zq_cN bs (sr k) (nI (i + j)))
def zq_B (bs op se M : Nat → Int32) (k i j : Nat) : Int32 := if zq_two (op k) = 0 then se k else M (zq_cN bs (se k) (nI (i + j)))
def zq_fr (bs op tg sr se : Nat → Int32) (k i : Nat) (s : (Nat → Int32) × Int32) : (Nat → Int32) × Int32 :=
  if op k = 6 then (s.1, s.2 + (zq_A bs sr s.1 k i 0 + zq_A bs sr s.1 k i 1 + zq_A bs sr s.1 k i 2 + zq_A bs sr s.1 k i 3) * se k)
  else (zq_wr bs op tg k i (zq_A bs sr s.1 k i) (zq_B bs op se s.1 k i) s.1 4, s.2)
theorem zq_wrk {k i : Nat} {A B M : Nat → Int32} {c : Nat} : ∀ j, (∀ j', j' < j → zq_cN bs (tg k) (nI (i + j')) ≠ c) → zq_wr bs op tg k i A B M j c = M c := by
  intro j
  induction j with
  | zero => intro _; rfl
  | succ j ih =>
    intro h
    show upd (zq_wr bs op tg k i A B M j) _ _ c = M c
    rw [pk_un (Ne.symm (h j (by omega))), ih (fun j' hj' => h j' (by omega))]
theorem zq_frI (S : zq_Sf bs op tg sr se n t) {k i : Nat} (hk : k < n) (hi : i + 4 ≤ t) (s : (Nat → Int32) × Int32) :
    zq_fr bs op tg sr se k i s = zq_it (fun j s => zq_stp bs op tg sr se k (nI (i + j)) s) 4 s := by
  by_cases h6 : op k = 6
  · show _ = zq_stp bs op tg sr se k (nI (i + 3)) (zq_stp bs op tg sr se k (nI (i + 2)) (zq_stp bs op tg sr se k (nI (i + 1)) (zq_stp bs op tg sr se k (nI (i + 0)) s)))
    rw [zq_stp6 h6, zq_stp6 h6, zq_stp6 h6, zq_stp6 h6]
    unfold zq_fr
    rw [if_pos h6]
    refine Prod.ext rfl ?_
    show s.2 + (zq_A bs sr s.1 k i 0 + zq_A bs sr s.1 k i 1 + zq_A bs sr s.1 k i 2 + zq_A bs sr s.1 k i 3) * se k = s.2 + zq_A bs sr s.1 k i 0 * se k + zq_A bs sr s.1 k i 1 * se k + zq_A bs sr s.1 k i 2 * se k + zq_A bs sr s.1 k i 3 * se k
    rw [Int32.add_mul, Int32.add_mul, Int32.add_mul, ← Int32.add_assoc, ← Int32.add_assoc, ← Int32.add_assoc]
  · have K : ∀ j, j ≤ 4 → zq_it (fun j s => zq_stp bs op tg sr se k (nI (i + j)) s) j s = (zq_wr bs op tg k i (zq_A bs sr s.1 k i) (zq_B bs op se s.1 k i) s.1 j, s.2) := by
      intro j
      induction j with
      | zero => intro _; rfl
      | succ j ih =>
        intro hj
        show zq_stp bs op tg sr se k (nI (i + j)) (zq_it (fun j s => zq_stp bs op tg sr se k (nI (i + j)) s) j s) = _
        rw [ih (by omega), zq_stpN h6]
        refine Prod.ext ?_ rfl
        show upd _ _ (zq_val bs op sr se (zq_wr bs op tg k i (zq_A bs sr s.1 k i) (zq_B bs op se s.1 k i) s.1 j) k (nI (i + j))) = upd _ _ (zq_val bs op sr se s.1 k (nI (i + j)))
        rw [zq_valE (M := s.1) (fun h7 => zq_wrk j (fun j' hj' => (S k k (i + j') (i + j) hk hk (by omega) (by omega) (by omega) h6).2.1 h7))
          (fun hw => zq_wrk j (fun j' hj' => (S k k (i + j') (i + j) hk hk (by omega) (by omega) (by omega) h6).2.2 hw))]
    rw [K 4 (Nat.le_refl _)]
    exact if_neg h6
/-- one round -/
def zq_rd (bs op tg sr se : Nat → Int32) (n i : Nat) (s : (Nat → Int32) × Int32) : (Nat → Int32) × Int32 := zq_it (fun k s => zq_stp bs op tg sr se k (nI i) s) n s
theorem zq_it_ext {σ : Type} {F G : Nat → σ → σ} : ∀ n, (∀ k, k < n → ∀ s, F k s = G k s) → ∀ s, zq_it F n s = zq_it G n s := by
  intro n
  induction n with
  | zero => intro _ s; rfl
  | succ n ih =>
    intro h s
    show F n (zq_it F n s) = G n (zq_it G n s)
    rw [h n (by omega), ih (fun k hk => h k (by omega))]
theorem zq_law (S : zq_Sf bs op tg sr se n t) {i : Nat} (hi : i + 4 ≤ t) (s : (Nat → Int32) × Int32) :
    zq_it (fun k s => zq_fr bs op tg sr se k i s) n s = zq_rd bs op tg sr se n (i + 3) (zq_rd bs op tg sr se n (i + 2) (zq_rd bs op tg sr se n (i + 1) (zq_rd bs op tg sr se n i s))) := by
  rw [zq_it_ext n (fun k hk s => zq_frI S hk hi s)]
  exact zq_swap (fun k j s => zq_stp bs op tg sr se k (nI (i + j)) s) n (fun k k' j j' hk hk' hj hj' hkk hjj s => zq_comm S hk hk' (by omega) (by omega) hkk (by omega) s) s
end
end
section
/-! fourRounds: its walk -/
theorem zq_adv (a s : Int32) (n : Nat) : a + s * nI n + s = a + s * nI (n + 1) := by
  rw [← nI_1 n, Int32.mul_add, Int32.mul_one, Int32.add_assoc]
section
variable {cn us sm : Int32} {M bs op tg sr se la lb ur uw : Nat → Int32} {post : SX → Prop} {k i : Nat}
theorem zq_fr243 {A B : Nat → Int32} (hk : k < 5) (hA : ∀ j, j < 4 → la j = A j) (hB : ∀ j, j < 4 → lb j = B j)
    (h : post (cn, us, sm, zq_wr bs op tg k i A B M 4, bs, op, tg, sr, se, la, lb, ur, uw)) :
    ∀ d j, j + d = 4 → wX_fourRounds_243 post (nI k) (nI i) cn us sm (d + 1) (zq_st bs (tg k) + zq_sd (tg k) * nI (i + j)) (nI j) (zq_wr bs op tg k i A B M j) bs op tg sr se la lb ur uw := by
  intro d
  induction d with
  | zero =>
    intro j hj
    obtain rfl : j = 4 := by omega
    rw [wX_fourRounds_243]
    exact br_t (nI_le (a := 4) (b := 4) (by omega) (by omega)) h
  | succ d ih =>
    intro j hj
    have hi : vp_in (nI k) 5 := vp_in_nI hk (by omega)
    have hj4 : vp_in (nI j) 4 := vp_in_nI (by omega) (by omega)
    have e : (nI k).toNatClampNeg = k := nI_clamp (by omega)
    have ej : (nI j).toNatClampNeg = j := nI_clamp (by omega)
    rw [wX_fourRounds_243]
    try dsimp only
    rw [e, ej, hA j (by omega), hB j (by omega), nI_add]
    exact br_f (nI_ge (b := 4) (by omega) (by omega)) ⟨hi, hj4, hj4, zq_result ⟨zq_and63 _, nm_e ⟨hi, zq_stride (nm_r (zq_adv _ _ _) (nm_r (nI_1 j) (ih (j + 1) (by omega))))⟩⟩⟩
theorem zq_fr161 (hk : k < 5) (hA : ∀ j, j < 4 → la j = zq_A bs sr M k i j) (hB : ∀ j, j < 4 → lb j = zq_B bs op se M k i j)
    (h : post (cn, us, (zq_fr bs op tg sr se k i (M, sm)).2, (zq_fr bs op tg sr se k i (M, sm)).1, bs, op, tg, sr, se, la, lb, ur, uw)) :
    wX_fourRounds_161 post (nI k) (nI i) cn us sm M bs op tg sr se la lb ur uw := by
  have hi : vp_in (nI k) 5 := vp_in_nI hk (by omega)
  have e : (nI k).toNatClampNeg = k := nI_clamp (by omega)
  unfold zq_fr at h
  unfold wX_fourRounds_161
  rw [e, hA 0 (by omega), hA 1 (by omega), hA 2 (by omega), hA 3 (by omega)]
  refine ⟨hi, br_c (fun c => ⟨hi, nm_e ?_⟩) (fun c => ⟨hi, zq_start ⟨hi, zq_stride (nm_e ⟨5, ?_⟩)⟩⟩)⟩
  · rw [if_pos c] at h
    exact h
  · rw [if_neg c] at h
    exact zq_fr243 hk hA hB h 4 0 rfl
theorem zq_fr118 (hk : k < 5) (hw : ¬ zq_two (op k) = 0) (hA : ∀ j, j < 4 → la j = zq_A bs sr M k i j)
    (h : ∀ lb', post (cn, us, (zq_fr bs op tg sr se k i (M, sm)).2, (zq_fr bs op tg sr se k i (M, sm)).1, bs, op, tg, sr, se, la, lb', ur, uw)) :
    ∀ d j lb, j + d = 4 → (∀ j', j' < j → lb j' = zq_B bs op se M k i j') → wX_fourRounds_118 post (nI k) (nI i) cn us sm (d + 1) (zq_st bs (se k) + zq_sd (se k) * nI (i + j)) (nI j) M bs op tg sr se la lb ur uw := by
  intro d
  induction d with
  | zero =>
    intro j lb hj hB
    obtain rfl : j = 4 := by omega
    rw [wX_fourRounds_118]
    exact br_t (nI_le (a := 4) (b := 4) (by omega) (by omega)) (zq_fr161 hk hA hB (h lb))
  | succ d ih =>
    intro j lb hj hB
    have hi : vp_in (nI k) 5 := vp_in_nI hk (by omega)
    have hj4 : vp_in (nI j) 4 := vp_in_nI (by omega) (by omega)
    have e : (nI k).toNatClampNeg = k := nI_clamp (by omega)
    have ej : (nI j).toNatClampNeg = j := nI_clamp (by omega)
    rw [wX_fourRounds_118]
    try dsimp only
    rw [e, ej]
    refine br_f (nI_ge (b := 4) (by omega) (by omega)) ⟨zq_and63 _, hj4, nm_e ⟨hi, zq_stride (nm_r (zq_adv _ _ _) (nm_r (nI_1 j) (ih (j + 1) _ (by omega) (fun j' hj' => ?_))))⟩⟩
    by_cases ee : j' = j
    · rw [ee, pk_us]
      unfold zq_B
      rw [if_neg hw]
      rfl
    · rw [pk_un ee]
      exact hB j' (by omega)
theorem zq_fr26 (hk : k < 5)
    (h : ∀ la' lb', post (cn, us, (zq_fr bs op tg sr se k i (M, sm)).2, (zq_fr bs op tg sr se k i (M, sm)).1, bs, op, tg, sr, se, la', lb', ur, uw)) :
    ∀ d j la lb, j + d = 4 → (∀ j', j' < j → la j' = zq_A bs sr M k i j') → (∀ j', j' < j → lb j' = se k) → wX_fourRounds_26 post (nI k) (nI i) cn us sm (d + 1) (zq_st bs (sr k) + zq_sd (sr k) * nI (i + j)) (nI j) M bs op tg sr se la lb ur uw := by
  intro d
  induction d with
  | zero =>
    intro j la lb hj hA hB
    obtain rfl : j = 4 := by omega
    have hi : vp_in (nI k) 5 := vp_in_nI hk (by omega)
    have e : (nI k).toNatClampNeg = k := nI_clamp (by omega)
    rw [wX_fourRounds_26]
    try dsimp only
    rw [e]
    refine br_t (nI_le (a := 4) (b := 4) (by omega) (by omega)) ⟨hi, zq_takes (br_c (fun c => zq_fr161 hk hA (fun j' hj' => ?_) (h la lb)) (fun c => ⟨hi, zq_start ⟨hi, zq_stride (nm_e ⟨5, ?_⟩)⟩⟩))⟩
    · rw [hB j' hj']
      unfold zq_B
      rw [if_pos c]
    · exact zq_fr118 hk c hA (h la) 4 0 lb rfl (fun j' h => absurd h (Nat.not_lt_zero _))
  | succ d ih =>
    intro j la lb hj hA hB
    have hi : vp_in (nI k) 5 := vp_in_nI hk (by omega)
    have hj4 : vp_in (nI j) 4 := vp_in_nI (by omega) (by omega)
    have e : (nI k).toNatClampNeg = k := nI_clamp (by omega)
    have ej : (nI j).toNatClampNeg = j := nI_clamp (by omega)
    rw [wX_fourRounds_26]
    try dsimp only
    rw [e, ej]
    refine br_f (nI_ge (b := 4) (by omega) (by omega)) ⟨zq_and63 _, hj4, nm_e ⟨hi, zq_stride (nm_r (zq_adv _ _ _) ⟨hi, hj4, nm_e (nm_r (nI_1 j) (ih (j + 1) _ _ (by omega) (fun j' hj' => ?_) (fun j' hj' => ?_)))⟩)⟩⟩
    · by_cases ee : j' = j
      · rw [ee, pk_us]
        rfl
      · rw [pk_un ee]
        exact hA j' (by omega)
    · by_cases ee : j' = j
      · rw [ee, pk_us]
      · rw [pk_un ee]
        exact hB j' (by omega)
theorem zq_four (hk : k < 5)
    (h : ∀ la' lb', post (cn, us, (zq_fr bs op tg sr se k i (M, sm)).2, (zq_fr bs op tg sr se k i (M, sm)).1, bs, op, tg, sr, se, la', lb', ur, uw)) :
    wpX_fourRounds post (cn, us, sm, M, bs, op, tg, sr, se, la, lb, ur, uw) (nI k) (nI i) := by
  have hi : vp_in (nI k) 5 := vp_in_nI hk (by omega)
  have e : (nI k).toNatClampNeg = k := nI_clamp (by omega)
  unfold wpX_fourRounds
  dsimp only
  rw [e]
  refine ⟨hi, zq_start ⟨hi, zq_stride (nm_e ⟨5, ?_⟩)⟩⟩
  exact zq_fr26 hk h 4 0 la lb rfl (fun j' h => absurd h (Nat.not_lt_zero _)) (fun j' h => absurd h (Nat.not_lt_zero _))
end
end
section
/-! run: the loops of both sides -/
section
variable {us : Int32} {bs op tg sr se la lb ur uw : Nat → Int32} {post : Int32 → SX → Prop} {n t : Nat}
theorem zq_x69 {J : Int32 → Int32 → Int32 → Int32 → (Nat → Int32) → (Nat → Int32) → (Nat → Int32) → (Nat → Int32) → (Nat → Int32) → (Nat → Int32) → (Nat → Int32) → (Nat → Int32) → (Nat → Int32) → (Nat → Int32) → Prop} {i : Nat} {s0 : (Nat → Int32) × Int32} (hn : n ≤ 5)
    (hJ : J (nI (i + 1)) (nI n) us (zq_rd bs op tg sr se n i s0).2 (zq_rd bs op tg sr se n i s0).1 bs op tg sr se la lb ur uw) :
    ∀ d k, k + d = n → wX_run_69 post J (nI t) (nI i) (d + 1) (nI k) (nI n) us (zq_it (fun k s => zq_stp bs op tg sr se k (nI i) s) k s0).2 (zq_it (fun k s => zq_stp bs op tg sr se k (nI i) s) k s0).1 bs op tg sr se la lb ur uw := by
  intro d
  induction d with
  | zero =>
    intro k hk
    obtain rfl : k = n := by omega
    rw [wX_run_69]
    exact br_t (nI_le (Nat.le_refl _) (by omega)) (nm_r (nI_1 i) hJ)
  | succ d ih =>
    intro k hk
    rw [wX_run_69]
    exact br_f (nI_ge (by omega) (by omega)) (zq_one (by omega) (nm_r (nI_1 k) (ih (k + 1) (by omega))))
theorem zq_x62 {s0 : (Nat → Int32) × Int32} (hn : n ≤ 5) (ht : t ≤ 40)
    (h : post (zq_it (fun i s => zq_rd bs op tg sr se n i s) t s0).2 (nI n, us, (zq_it (fun i s => zq_rd bs op tg sr se n i s) t s0).2, (zq_it (fun i s => zq_rd bs op tg sr se n i s) t s0).1, bs, op, tg, sr, se, la, lb, ur, uw)) :
    ∀ d i, i + d = t → wX_run_62 post (nI t) (d + 1) (nI i) (nI n) us (zq_it (fun i s => zq_rd bs op tg sr se n i s) i s0).2 (zq_it (fun i s => zq_rd bs op tg sr se n i s) i s0).1 bs op tg sr se la lb ur uw := by
  intro d
  induction d with
  | zero =>
    intro i hi
    obtain rfl : i = t := by omega
    rw [wX_run_62]
    exact br_t (nI_le (Nat.le_refl _) (by omega)) h
  | succ d ih =>
    intro i hi
    rw [wX_run_62]
    exact br_f (nI_ge (by omega) (by omega)) ⟨n + 1, zq_x69 hn (ih (i + 1) (by omega)) n 0 (by omega)⟩
theorem zq_x36 {J : Int32 → Int32 → Int32 → Int32 → (Nat → Int32) → (Nat → Int32) → (Nat → Int32) → (Nat → Int32) → (Nat → Int32) → (Nat → Int32) → (Nat → Int32) → (Nat → Int32) → (Nat → Int32) → (Nat → Int32) → Prop} {i : Nat} {s0 : (Nat → Int32) × Int32} (hn : n ≤ 5)
    (hJ : ∀ la' lb', J (nI (i + 4)) (nI n) us (zq_it (fun k s => zq_fr bs op tg sr se k i s) n s0).2 (zq_it (fun k s => zq_fr bs op tg sr se k i s) n s0).1 bs op tg sr se la' lb' ur uw) :
    ∀ d k la lb, k + d = n → wX_run_36 post J (nI t) (nI i) (d + 1) (nI k) (nI n) us (zq_it (fun k s => zq_fr bs op tg sr se k i s) k s0).2 (zq_it (fun k s => zq_fr bs op tg sr se k i s) k s0).1 bs op tg sr se la lb ur uw := by
  intro d
  induction d with
  | zero =>
    intro k la lb hk
    obtain rfl : k = n := by omega
    rw [wX_run_36]
    exact br_t (nI_le (Nat.le_refl _) (by omega)) (nm_r (nI_add i 4) (hJ la lb))
  | succ d ih =>
    intro k la lb hk
    rw [wX_run_36]
    exact br_f (nI_ge (by omega) (by omega)) (zq_four (by omega) (fun la' lb' => nm_r (nI_1 k) (ih (k + 1) la' lb' (by omega))))
theorem zq_x27 {s0 : (Nat → Int32) × Int32} (hn : n ≤ 5) (ht : t ≤ 40) (S : zq_Sf bs op tg sr se n t)
    (h : ∀ la' lb', post (zq_it (fun i s => zq_rd bs op tg sr se n i s) t s0).2 (nI n, us, (zq_it (fun i s => zq_rd bs op tg sr se n i s) t s0).2, (zq_it (fun i s => zq_rd bs op tg sr se n i s) t s0).1, bs, op, tg, sr, se, la', lb', ur, uw)) :
    ∀ f i la lb, i ≤ t → t - i < f → wX_run_27 post (nI t) f (nI i) (nI n) us (zq_it (fun i s => zq_rd bs op tg sr se n i s) i s0).2 (zq_it (fun i s => zq_rd bs op tg sr se n i s) i s0).1 bs op tg sr se la lb ur uw := by
  intro f
  induction f with
  | zero => intro i la lb _ hf; exact absurd hf (Nat.not_lt_zero _)
  | succ f ih =>
    intro i la lb hi hf
    rw [wX_run_27]
    refine pk_lt t (i + 4) (fun c => ⟨t - i + 1, zq_x62 hn ht (h la lb) (t - i) i (by omega)⟩) (fun c => ⟨n + 1, ?_⟩) rfl (nI_add i 4)
    refine zq_x36 (s0 := zq_it (fun i s => zq_rd bs op tg sr se n i s) i s0) hn (fun la' lb' => ?_) n 0 la lb (by omega)
    rw [zq_law S c]
    exact ih (i + 4) la' lb' c (by omega)
end
section
variable {us sm : Int32} {M bs op tg sr se la lb ur uw : Nat → Int32} {post : Int32 → SX → Prop} {n t : Nat}
theorem zq_xrun (hn : n ≤ 5) (ht : t ≤ 40) (hB : zq_Bs bs)
    (h : ∀ us' la' lb' ur' uw', post (zq_it (fun i s => zq_rd bs op tg sr se n i s) t (M, sm)).2 (nI n, us', (zq_it (fun i s => zq_rd bs op tg sr se n i s) t (M, sm)).2, (zq_it (fun i s => zq_rd bs op tg sr se n i s) t (M, sm)).1, bs, op, tg, sr, se, la', lb', ur', uw')) :
    wpX_run post (nI n, us, sm, M, bs, op, tg, sr, se, la, lb, ur, uw) (nI t) := by
  have K : ∀ us' la' lb' ur' uw', wX_run_62 post (nI t) (t + 1) 0 (nI n) us' sm M bs op tg sr se la' lb' ur' uw' := fun us' la' lb' ur' uw' =>
    zq_x62 (s0 := (M, sm)) hn ht (h us' la' lb' ur' uw') t 0 (by omega)
  unfold wpX_run
  refine br_f (nI_pos (by omega)) (br_t (nI_le (b := 40) ht (by omega)) ?_)
  refine pk_lt t 4 (fun c => ⟨t + 1, K _ _ _ _ _⟩) (fun c => ?_)
  refine zq_isSafe hn hB ⟨by omega, ht⟩ (fun us' ur' uw' => br_t rfl ⟨t + 1, K _ _ _ _ _⟩) (fun S us' ur' uw' => br_f (by decide) ⟨t + 1, ?_⟩)
  exact zq_x27 (s0 := (M, sm)) hn ht S (fun la' lb' => h us' la' lb' ur' uw') (t + 1) 0 la lb (by omega) (by omega)
end
section
variable {bs op tg sr se : Nat → Int32} {post : Int32 → SY → Prop} {n t : Nat}
theorem zq_y21 {J : Int32 → Int32 → (Nat → Int32) → (Nat → Int32) → (Nat → Int32) → (Nat → Int32) → (Nat → Int32) → (Nat → Int32) → Prop} {i : Nat} {s0 : (Nat → Int32) × Int32} (hn : n ≤ 5) (hO : zq_Ok op tg sr se n)
    (hJ : J (nI (i + 1)) (zq_rd bs op tg sr se n i s0).2 (zq_rd bs op tg sr se n i s0).1 bs op tg sr se) :
    ∀ d k, k + d = n → wY_run_21 post J (nI t) (nI i) (nI n) (d + 1) (nI k) (zq_it (fun k s => zq_stp bs op tg sr se k (nI i) s) k s0).2 (zq_it (fun k s => zq_stp bs op tg sr se k (nI i) s) k s0).1 bs op tg sr se := by
  intro d
  induction d with
  | zero =>
    intro k hk
    obtain rfl : k = n := by omega
    rw [wY_run_21]
    exact br_t (nI_le (Nat.le_refl _) (by omega)) (nm_r (nI_1 i) hJ)
  | succ d ih =>
    intro k hk
    have hi : vp_in (nI k) 5 := vp_in_nI (by omega) (by omega)
    have e : (nI k).toNatClampNeg = k := nI_clamp (by omega)
    obtain ⟨-, hT, hS, -⟩ := hO k (by omega)
    have K := ih (k + 1) (by omega)
    have eK : zq_it (fun k s => zq_stp bs op tg sr se k (nI i) s) (k + 1) s0 = zq_stp bs op tg sr se k (nI i) (zq_it (fun k s => zq_stp bs op tg sr se k (nI i) s) k s0) := rfl
    rw [eK] at K
    rw [wY_run_21]
    try dsimp only
    rw [e]
    refine br_f (nI_ge (by omega) (by omega)) (br_f (nI_ge (b := 5) (by omega) (by omega)) ⟨hi, br_c (fun c => ⟨hi, zq_placeR hS ⟨zq_ce_in _ _ _, nm_e ⟨hi, nm_e (nm_r (nI_1 k) ?_)⟩⟩⟩) (fun c => ⟨hi, zq_placeR hT (zq_resY hO (by omega) (by omega) c ⟨zq_ce_in _ _ _, nm_e (nm_r (nI_1 k) ?_)⟩)⟩)⟩)
    · rw [zq_stp6 c] at K
      exact K
    · rw [zq_stpN c] at K
      exact K
theorem zq_y14 {s0 : (Nat → Int32) × Int32} (hn : n ≤ 5) (ht : t ≤ 40) (hO : zq_Ok op tg sr se n)
    (h : post (zq_it (fun i s => zq_rd bs op tg sr se n i s) t s0).2 ((zq_it (fun i s => zq_rd bs op tg sr se n i s) t s0).2, nI n, (zq_it (fun i s => zq_rd bs op tg sr se n i s) t s0).1, bs, op, tg, sr, se)) :
    ∀ d i, i + d = t → wY_run_14 post (nI t) (nI n) (d + 1) (nI i) (zq_it (fun i s => zq_rd bs op tg sr se n i s) i s0).2 (zq_it (fun i s => zq_rd bs op tg sr se n i s) i s0).1 bs op tg sr se := by
  intro d
  induction d with
  | zero =>
    intro i hi
    obtain rfl : i = t := by omega
    rw [wY_run_14]
    exact br_t (nI_le (Nat.le_refl _) (by omega)) h
  | succ d ih =>
    intro i hi
    rw [wY_run_14]
    exact br_f (nI_ge (by omega) (by omega)) ⟨n + 1, zq_y21 hn hO (ih (i + 1) (by omega)) n 0 (by omega)⟩
theorem zq_yrun {sm : Int32} {M : Nat → Int32} (hn : n ≤ 5) (ht : t ≤ 40) (hO : zq_Ok op tg sr se n)
    (h : post (zq_it (fun i s => zq_rd bs op tg sr se n i s) t (M, sm)).2 ((zq_it (fun i s => zq_rd bs op tg sr se n i s) t (M, sm)).2, nI n, (zq_it (fun i s => zq_rd bs op tg sr se n i s) t (M, sm)).1, bs, op, tg, sr, se)) :
    wpY_run post (sm, nI n, M, bs, op, tg, sr, se) (nI t) := by
  unfold wpY_run
  exact br_f (nI_pos (by omega)) (br_t (nI_le (b := 40) ht (by omega)) ⟨t + 1, zq_y14 (s0 := (M, sm)) hn ht hO h t 0 (by omega)⟩)
end
end
section
/-! ones: the count of the bits of a long, by bytes -/
def zq_cnt (N : Nat) : Nat → Nat
  | 0 => 0
  | c + 1 => zq_cnt N c + (if N.testBit c = true then 1 else 0)
theorem zq_cnt_le (N : Nat) : ∀ c, zq_cnt N c ≤ c := by
  intro c
  induction c with
  | zero => exact Nat.le_refl _
  | succ c ih =>
    show zq_cnt N c + (if N.testBit c = true then 1 else 0) ≤ c + 1
    by_cases h : N.testBit c = true
    · rw [if_pos h]; omega
    · rw [if_neg h]; omega
theorem zq_cnt_ext {N N' : Nat} : ∀ m, (∀ c, c < m → N.testBit c = N'.testBit c) → zq_cnt N m = zq_cnt N' m := by
  intro m
  induction m with
  | zero => intro _; rfl
  | succ m ih =>
    intro h
    show zq_cnt N m + (if N.testBit m = true then 1 else 0) = zq_cnt N' m + (if N'.testBit m = true then 1 else 0)
    rw [ih (fun c hc => h c (by omega)), h m (by omega)]
theorem zq_tb256 {q b : Nat} (hb : b < 256) (j : Nat) : (256 * q + b).testBit j = if j < 8 then b.testBit j else q.testBit (j - 8) := Nat.testBit_two_pow_mul_add q (i := 8) hb j
theorem zq_cnt256 {q b : Nat} (hb : b < 256) : ∀ m, zq_cnt (256 * q + b) (8 + m) = zq_cnt b 8 + zq_cnt q m := by
  intro m
  induction m with
  | zero => exact zq_cnt_ext 8 (fun c hc => by rw [zq_tb256 hb, if_pos hc])
  | succ m ih =>
    show zq_cnt (256 * q + b) (8 + m) + (if (256 * q + b).testBit (8 + m) = true then 1 else 0) = zq_cnt b 8 + (zq_cnt q m + (if q.testBit m = true then 1 else 0))
    rw [ih, zq_tb256 hb, if_neg (show ¬ 8 + m < 8 by omega), Nat.add_sub_cancel_left, Nat.add_assoc]
/-- k bytes w -/
def zq_m (w : Nat) : Nat → Nat
  | 0 => 0
  | k + 1 => 256 * zq_m w k + w
theorem zq_and256 {a b c d : Nat} (hb : b < 256) (hd : d < 256) : (256 * a + b) &&& (256 * c + d) = 256 * (a &&& c) + (b &&& d) := by
  have hbd : b &&& d < 256 := Nat.lt_of_le_of_lt Nat.and_le_left hb
  apply Nat.eq_of_testBit_eq
  intro j
  rw [Nat.testBit_and, zq_tb256 hb, zq_tb256 hd, zq_tb256 hbd]
  by_cases h : j < 8
  · rw [if_pos h, if_pos h, if_pos h, Nat.testBit_and]
  · rw [if_neg h, if_neg h, if_neg h, Nat.testBit_and]
def zq_s1 (k n : Nat) : Nat := n - ((n / 2) &&& zq_m 85 k)
def zq_s2 (k n : Nat) : Nat := (n &&& zq_m 51 k) + ((n / 4) &&& zq_m 51 k)
def zq_s3 (k n : Nat) : Nat := (n + n / 16) &&& zq_m 15 k
def zq_p1 (b : Nat) : Nat := b - ((b / 2) &&& 85)
def zq_p2 (b : Nat) : Nat := (b &&& 51) + ((b / 4) &&& 51)
def zq_p3 (b : Nat) : Nat := (b + b / 16) &&& 15
theorem zq_b85 : ∀ e, e < 2 → ∀ c, c < 128 → (128 * e + c) &&& 85 = c &&& 85 := by decide +kernel
theorem zq_b51 : ∀ e, e < 4 → ∀ c, c < 64 → (64 * e + c) &&& 51 = c &&& 51 := by decide +kernel
theorem zq_s1_byte {k q b : Nat} (hb : b < 256) : zq_s1 (k + 1) (256 * q + b) = 256 * zq_s1 k q + zq_p1 b := by
  unfold zq_s1 zq_p1
  have e : (256 * q + b) / 2 = 256 * (q / 2) + (128 * (q % 2) + b / 2) := by omega
  have h1 : q / 2 &&& zq_m 85 k ≤ q / 2 := Nat.and_le_left
  have h2 : b / 2 &&& 85 ≤ b / 2 := Nat.and_le_left
  rw [e]
  show 256 * q + b - ((256 * (q / 2) + (128 * (q % 2) + b / 2)) &&& (256 * zq_m 85 k + 85)) = _
  rw [zq_and256 (by omega) (by omega), zq_b85 (q % 2) (by omega) (b / 2) (by omega)]
  omega
theorem zq_s2_byte {k q b : Nat} (hb : b < 256) : zq_s2 (k + 1) (256 * q + b) = 256 * zq_s2 k q + zq_p2 b := by
  unfold zq_s2 zq_p2
  have e : (256 * q + b) / 4 = 256 * (q / 4) + (64 * (q % 4) + b / 4) := by omega
  rw [e]
  show ((256 * q + b) &&& (256 * zq_m 51 k + 51)) + ((256 * (q / 4) + (64 * (q % 4) + b / 4)) &&& (256 * zq_m 51 k + 51)) = _
  rw [zq_and256 hb (by omega), zq_and256 (by omega) (by omega), zq_b51 (q % 4) (by omega) (b / 4) (by omega)]
  omega
theorem zq_s3_byte {k q b : Nat} (hb : b ≤ 68) (hq : q % 16 ≤ 4) : zq_s3 (k + 1) (256 * q + b) = 256 * zq_s3 k q + zq_p3 b := by
  unfold zq_s3 zq_p3
  have e : 256 * q + b + (256 * q + b) / 16 = 256 * (q + q / 16) + (16 * (q % 16) + (b + b / 16)) := by omega
  rw [e]
  show (256 * (q + q / 16) + (16 * (q % 16) + (b + b / 16))) &&& (256 * zq_m 15 k + 15) = _
  rw [zq_and256 (by omega) (by omega)]
  have e1 : (16 * (q % 16) + (b + b / 16)) &&& 15 = (16 * (q % 16) + (b + b / 16)) % 16 := Nat.and_two_pow_sub_one_eq_mod _ 4
  have e2 : (b + b / 16) &&& 15 = (b + b / 16) % 16 := Nat.and_two_pow_sub_one_eq_mod _ 4
  rw [e1, e2]
  omega
theorem zq_byte : ∀ b, b < 256 → zq_p1 b < 256 ∧ zq_p2 (zq_p1 b) ≤ 68 ∧ zq_p2 (zq_p1 b) % 16 ≤ 4 ∧ zq_p3 (zq_p2 (zq_p1 b)) = zq_cnt b 8 := by decide +kernel
def zq_y (k n : Nat) : Nat := zq_s2 k (zq_s1 k n)
theorem zq_y_byte {k q b : Nat} (hb : b < 256) : zq_y (k + 1) (256 * q + b) = 256 * zq_y k q + zq_p2 (zq_p1 b) := by
  unfold zq_y
  rw [zq_s1_byte hb, zq_s2_byte (zq_byte b hb).1]
theorem zq_y_low : ∀ k n, zq_y k n % 16 ≤ 4 := by
  intro k n
  cases k with
  | zero =>
    have e : zq_y 0 n = 0 := by
      show (_ &&& 0) + (_ &&& 0) = 0
      rw [Nat.and_zero, Nat.and_zero]
    rw [e]
    decide
  | succ k =>
    have h : n % 256 < 256 := Nat.mod_lt _ (by decide)
    have e : n = 256 * (n / 256) + n % 256 := by omega
    rw [e, zq_y_byte h]
    have := (zq_byte (n % 256) h).2.2.1
    omega
def zq_T (k n : Nat) : Nat := zq_s3 k (zq_y k n)
theorem zq_T_byte {k q b : Nat} (hb : b < 256) : zq_T (k + 1) (256 * q + b) = 256 * zq_T k q + zq_cnt b 8 := by
  unfold zq_T
  rw [zq_y_byte hb, zq_s3_byte (zq_byte b hb).2.1 (zq_y_low k q), (zq_byte b hb).2.2.2]
theorem zq_T_step {k n : Nat} : zq_T (k + 1) n = 256 * zq_T k (n / 256) + zq_cnt (n % 256) 8 := by
  have e : n = 256 * (n / 256) + n % 256 := by omega
  have h := zq_T_byte (k := k) (q := n / 256) (b := n % 256) (Nat.mod_lt _ (by decide))
  rw [← e] at h
  exact h
theorem zq_c_step (n m : Nat) : zq_cnt n (8 + m) = zq_cnt (n % 256) 8 + zq_cnt (n / 256) m := by
  have e : n = 256 * (n / 256) + n % 256 := by omega
  have h := zq_cnt256 (q := n / 256) (b := n % 256) (Nat.mod_lt _ (by decide)) m
  rw [← e] at h
  exact h
theorem zq_mulsum {a b c d e f g h : Nat} (ha : a ≤ 8) (hb : b ≤ 8) (hc : c ≤ 8) (hd : d ≤ 8) (he : e ≤ 8) (hf : f ≤ 8) (hg : g ≤ 8) (hh : h ≤ 8) :
    (256 * (256 * (256 * (256 * (256 * (256 * (256 * (256 * 0 + h) + g) + f) + e) + d) + c) + b) + a) * 72340172838076673 % 2 ^ 64 / 2 ^ 56 = a + (b + (c + (d + (e + (f + (g + (h + 0))))))) := by
  have k : (256 * (256 * (256 * (256 * (256 * (256 * (256 * (256 * 0 + h) + g) + f) + e) + d) + c) + b) + a) * 72340172838076673 =
      2 ^ 64 * ((b + c + d + e + f + g + h) + 256 * (c + d + e + f + g + h) + 65536 * (d + e + f + g + h) + 16777216 * (e + f + g + h) + 4294967296 * (f + g + h) + 1099511627776 * (g + h) + 281474976710656 * h)
      + (2 ^ 56 * (a + (b + (c + (d + (e + (f + (g + (h + 0)))))))) + (a + 256 * (a + b) + 65536 * (a + b + c) + 16777216 * (a + b + c + d) + 4294967296 * (a + b + c + d + e) + 1099511627776 * (a + b + c + d + e + f) + 281474976710656 * (a + b + c + d + e + f + g))) := by
    omega
  have l : a + 256 * (a + b) + 65536 * (a + b + c) + 16777216 * (a + b + c + d) + 4294967296 * (a + b + c + d + e) + 1099511627776 * (a + b + c + d + e + f) + 281474976710656 * (a + b + c + d + e + f + g) < 2 ^ 56 := by
    omega
  have s : a + (b + (c + (d + (e + (f + (g + (h + 0))))))) ≤ 64 := by omega
  rw [k, Nat.mul_add_mod]
  generalize a + 256 * (a + b) + 65536 * (a + b + c) + 16777216 * (a + b + c + d) + 4294967296 * (a + b + c + d + e) + 1099511627776 * (a + b + c + d + e + f) + 281474976710656 * (a + b + c + d + e + f + g) = L at *
  generalize a + (b + (c + (d + (e + (f + (g + (h + 0))))))) = S at *
  rw [Nat.mod_eq_of_lt (by omega), Nat.mul_add_div (by decide), Nat.div_eq_of_lt l, Nat.add_zero]
theorem zq_Tm (n : Nat) : zq_T 8 n * 72340172838076673 % 2 ^ 64 / 2 ^ 56 = zq_cnt n 64 := by
  rw [zq_T_step, zq_T_step, zq_T_step, zq_T_step, zq_T_step, zq_T_step, zq_T_step, zq_T_step]
  have s0 : zq_cnt (n) 64 = zq_cnt (n % 256) 8 + zq_cnt (n / 256) 56 := zq_c_step (n) 56
  have s1 : zq_cnt (n / 256) 56 = zq_cnt (n / 256 % 256) 8 + zq_cnt (n / 256 / 256) 48 := zq_c_step (n / 256) 48
  have s2 : zq_cnt (n / 256 / 256) 48 = zq_cnt (n / 256 / 256 % 256) 8 + zq_cnt (n / 256 / 256 / 256) 40 := zq_c_step (n / 256 / 256) 40
  have s3 : zq_cnt (n / 256 / 256 / 256) 40 = zq_cnt (n / 256 / 256 / 256 % 256) 8 + zq_cnt (n / 256 / 256 / 256 / 256) 32 := zq_c_step (n / 256 / 256 / 256) 32
  have s4 : zq_cnt (n / 256 / 256 / 256 / 256) 32 = zq_cnt (n / 256 / 256 / 256 / 256 % 256) 8 + zq_cnt (n / 256 / 256 / 256 / 256 / 256) 24 := zq_c_step (n / 256 / 256 / 256 / 256) 24
  have s5 : zq_cnt (n / 256 / 256 / 256 / 256 / 256) 24 = zq_cnt (n / 256 / 256 / 256 / 256 / 256 % 256) 8 + zq_cnt (n / 256 / 256 / 256 / 256 / 256 / 256) 16 := zq_c_step (n / 256 / 256 / 256 / 256 / 256) 16
  have s6 : zq_cnt (n / 256 / 256 / 256 / 256 / 256 / 256) 16 = zq_cnt (n / 256 / 256 / 256 / 256 / 256 / 256 % 256) 8 + zq_cnt (n / 256 / 256 / 256 / 256 / 256 / 256 / 256) 8 := zq_c_step (n / 256 / 256 / 256 / 256 / 256 / 256) 8
  have s7 : zq_cnt (n / 256 / 256 / 256 / 256 / 256 / 256 / 256) 8 = zq_cnt (n / 256 / 256 / 256 / 256 / 256 / 256 / 256 % 256) 8 + zq_cnt (n / 256 / 256 / 256 / 256 / 256 / 256 / 256 / 256) 0 := zq_c_step (n / 256 / 256 / 256 / 256 / 256 / 256 / 256) 0
  rw [s0, s1, s2, s3, s4, s5, s6, s7]
  have z : ∀ n, zq_T 0 n = 0 := fun n => Nat.and_zero _
  rw [z]
  exact zq_mulsum (zq_cnt_le _ 8) (zq_cnt_le _ 8) (zq_cnt_le _ 8) (zq_cnt_le _ 8) (zq_cnt_le _ 8) (zq_cnt_le _ 8) (zq_cnt_le _ 8) (zq_cnt_le _ 8)
theorem zq_ones {post : Int32 → Prop} {N : Nat} (hN : N < 2 ^ 64) (h : post (nI (zq_cnt N 64))) : wpX_ones post (lN N) := by
  have m5 : zq_m 85 8 = 6148914691236517205 := by decide +kernel
  have m3 : zq_m 51 8 = 3689348814741910323 := by decide +kernel
  have mf : zq_m 15 8 = 1085102592571150095 := by decide +kernel
  have b1 : zq_s1 8 N < 2 ^ 64 := Nat.lt_of_le_of_lt (Nat.sub_le _ _) hN
  have b2 : zq_s2 8 (zq_s1 8 N) ≤ 7378697629483820646 := by
    unfold zq_s2
    rw [m3]
    have := @Nat.and_le_right (zq_s1 8 N) 3689348814741910323
    have := @Nat.and_le_right (zq_s1 8 N / 4) 3689348814741910323
    omega
  have e1 : lN N - ((((lN N).toUInt64 >>> ((1 : Int32).toInt64.toUInt64 &&& Int64.toUInt64 63)).toInt64) &&& 6148914691236517205) = lN (zq_s1 8 N) := by
    rw [show (((lN N).toUInt64 >>> ((1 : Int32).toInt64.toUInt64 &&& Int64.toUInt64 63)).toInt64) = lN (N / 2 ^ 1) from wb_shr (k := 1) hN (by decide)]
    rw [show (lN (N / 2 ^ 1) &&& 6148914691236517205) = lN (N / 2 ^ 1 &&& 6148914691236517205) from wb_and (b := 6148914691236517205) (by omega) (by decide)]
    unfold zq_s1
    rw [m5]
    exact lN_sub (Nat.le_trans Nat.and_le_left (Nat.div_le_self _ _))
  have e2 : (lN (zq_s1 8 N) &&& 3689348814741910323) + ((((lN (zq_s1 8 N)).toUInt64 >>> ((2 : Int32).toInt64.toUInt64 &&& Int64.toUInt64 63)).toInt64) &&& 3689348814741910323) = lN (zq_s2 8 (zq_s1 8 N)) := by
    rw [show (((lN (zq_s1 8 N)).toUInt64 >>> ((2 : Int32).toInt64.toUInt64 &&& Int64.toUInt64 63)).toInt64) = lN (zq_s1 8 N / 2 ^ 2) from wb_shr (k := 2) b1 (by decide)]
    rw [show (lN (zq_s1 8 N / 2 ^ 2) &&& 3689348814741910323) = lN (zq_s1 8 N / 2 ^ 2 &&& 3689348814741910323) from wb_and (b := 3689348814741910323) (by omega) (by decide)]
    rw [show (lN (zq_s1 8 N) &&& 3689348814741910323) = lN (zq_s1 8 N &&& 3689348814741910323) from wb_and (b := 3689348814741910323) (by omega) (by decide)]
    rw [lN_add]
    unfold zq_s2
    rw [m3]
  have e3 : (lN (zq_s2 8 (zq_s1 8 N)) + (((lN (zq_s2 8 (zq_s1 8 N))).toUInt64 >>> ((4 : Int32).toInt64.toUInt64 &&& Int64.toUInt64 63)).toInt64)) &&& 1085102592571150095 = lN (zq_T 8 N) := by
    rw [show (((lN (zq_s2 8 (zq_s1 8 N))).toUInt64 >>> ((4 : Int32).toInt64.toUInt64 &&& Int64.toUInt64 63)).toInt64) = lN (zq_s2 8 (zq_s1 8 N) / 2 ^ 4) from wb_shr (k := 4) (by omega) (by decide)]
    rw [lN_add]
    rw [show (lN (zq_s2 8 (zq_s1 8 N) + zq_s2 8 (zq_s1 8 N) / 2 ^ 4) &&& 1085102592571150095) = lN ((zq_s2 8 (zq_s1 8 N) + zq_s2 8 (zq_s1 8 N) / 2 ^ 4) &&& 1085102592571150095) from wb_and (b := 1085102592571150095) (by omega) (by decide)]
    unfold zq_T zq_s3 zq_y
    rw [mf]
  have e4 : (((lN (zq_T 8 N) * 72340172838076673).toUInt64 >>> ((56 : Int32).toInt64.toUInt64 &&& Int64.toUInt64 63)).toInt64).toInt32 = nI (zq_cnt N 64) := by
    rw [show lN (zq_T 8 N) * 72340172838076673 = lN (zq_T 8 N * 72340172838076673) from lN_mul _ _, wb_mod]
    rw [show (((lN (zq_T 8 N * 72340172838076673 % 2 ^ 64)).toUInt64 >>> ((56 : Int32).toInt64.toUInt64 &&& Int64.toUInt64 63)).toInt64) = lN (zq_T 8 N * 72340172838076673 % 2 ^ 64 / 2 ^ 56) from wb_shr (k := 56) (Nat.mod_lt _ (by decide)) (by decide)]
    rw [lN_i, zq_Tm]
  unfold wpX_ones
  refine nm_r e1 (nm_r e2 (nm_r e3 ?_))
  rw [e4]
  exact h
end
section
/-! cellSet, visits, spread, meet -/
def zq_set (bs : Nat → Int32) (r : Int32) : Nat → Nat
  | 0 => 0
  | j + 1 => zq_set bs r j ||| 2 ^ zq_cN bs r (nI j)
theorem zq_ce_nI (bs : Nat → Int32) (r i : Int32) : zq_ce bs r i = nI (zq_cN bs r i) ∧ zq_cN bs r i < 64 := by
  obtain ⟨j, hj, e⟩ := vp_in_of (zq_ce_in bs r i) (by decide)
  unfold zq_cN
  rw [e, nI_clamp (by omega)]
  exact ⟨rfl, hj⟩
theorem zq_set_lt (bs : Nat → Int32) (r : Int32) : ∀ j, zq_set bs r j < 2 ^ 64 := by
  intro j
  induction j with
  | zero => exact (by decide : 0 < 2 ^ 64)
  | succ j ih => exact Nat.or_lt_two_pow ih (Nat.pow_lt_pow_right (by decide) (zq_ce_nI bs r (nI j)).2)
theorem zq_set_tb (bs : Nat → Int32) (r : Int32) (c : Nat) : ∀ j, (zq_set bs r j).testBit c = true ↔ ∃ i, i < j ∧ zq_cN bs r (nI i) = c := by
  intro j
  induction j with
  | zero =>
    show Nat.testBit 0 c = true ↔ _
    rw [Nat.zero_testBit]
    exact ⟨fun h => absurd h (by decide), fun ⟨i, h, _⟩ => absurd h (Nat.not_lt_zero _)⟩
  | succ j ih =>
    show (zq_set bs r j ||| 2 ^ zq_cN bs r (nI j)).testBit c = true ↔ _
    rw [Nat.testBit_or, Bool.or_eq_true, ih, Nat.testBit_two_pow, decide_eq_true_eq]
    constructor
    · rintro (⟨i, h, e⟩ | e)
      · exact ⟨i, by omega, e⟩
      · exact ⟨j, by omega, e⟩
    · rintro ⟨i, h, e⟩
      by_cases hij : i = j
      · subst hij
        exact Or.inr e
      · exact Or.inl ⟨i, by omega, e⟩
theorem zq_and_add (x y : Int32) : ((x &&& 63) + y) &&& 63 = (x + y) &&& 63 := by
  rw [pk_and (x + y) 6 (by decide), pk_and ((x &&& 63) + y) 6 (by decide), pk_and x 6 (by decide)]
  apply congrArg nI
  rw [Int32.toBitVec_add, Int32.toBitVec_add, BitVec.toNat_add, BitVec.toNat_add, pk_tn (by omega)]
  omega
theorem zq_ce_next (bs : Nat → Int32) (r : Int32) (j : Nat) : (zq_ce bs r (nI j) + zq_sd r) &&& 63 = zq_ce bs r (nI (j + 1)) := by
  unfold zq_ce
  rw [zq_and_add, zq_adv]
section
variable {cn us sm : Int32} {M bs op tg sr se la lb ur uw : Nat → Int32} {t : Nat}
theorem zq_cs15 {post : Int64 → Prop} {r : Int32} (ht : t ≤ 40) (h : post (lN (zq_set bs r t))) :
    ∀ d j, j + d = t → wX_cellSet_15 post r (nI t) cn us sm M bs op tg sr se la lb ur uw (d + 1) (lN (zq_set bs r j)) (zq_ce bs r (nI j)) (nI j) := by
  intro d
  induction d with
  | zero =>
    intro j hj
    obtain rfl : j = t := by omega
    rw [wX_cellSet_15]
    exact br_t (nI_le (Nat.le_refl _) (by omega)) h
  | succ d ih =>
    intro j hj
    obtain ⟨ec, hc⟩ := zq_ce_nI bs r (nI j)
    have e : lN (zq_set bs r j) ||| ((1 : Int64) <<< ((zq_ce bs r (nI j)).toInt64 &&& 63)) = lN (zq_set bs r (j + 1)) := by
      rw [ec]
      rw [show (1 : Int64) <<< ((nI (zq_cN bs r (nI j))).toInt64 &&& 63) = lN (1 * 2 ^ zq_cN bs r (nI j)) from wb_shl 1 hc]
      rw [Nat.one_mul]
      exact wb_or (zq_set_lt bs r j) (Nat.pow_lt_pow_right (by decide) hc)
    rw [wX_cellSet_15]
    exact br_f (nI_ge (by omega) (by omega)) (nm_r e (zq_stride (nm_r (zq_ce_next bs r j) (nm_r (nI_1 j) (ih (j + 1) (by omega))))))
theorem zq_cellSet {post : Int64 → Prop} {r : Int32} (ht : t ≤ 40) (h : post (lN (zq_set bs r t))) : wpX_cellSet post (cn, us, sm, M, bs, op, tg, sr, se, la, lb, ur, uw) r (nI t) := by
  have e : zq_st bs r &&& 63 = zq_ce bs r (nI 0) := by
    unfold zq_ce
    rw [nI_0, Int32.mul_zero, Int32.add_zero]
  unfold wpX_cellSet
  exact zq_start (nm_r e ⟨t + 1, zq_cs15 ht h t 0 (by omega)⟩)
end
section
variable {tt cn : Int32} {M bs op tg sr se : Nat → Int32} {t : Nat} {post : Int32 → Prop}
theorem zq_vis3 {r : Int32} {c : Nat} (hr : zq_ref r) (ht : t ≤ 40) (hc : c < 64) (h1 : (zq_set bs r t).testBit c = true → post 1) (h0 : ¬ (zq_set bs r t).testBit c = true → post 0) :
    ∀ d j, j + d = t → (∀ i, i < j → zq_cN bs r (nI i) ≠ c) → wY_visits_3 post r (nI t) (nI c) tt cn M bs op tg sr se (d + 1) (nI j) := by
  rw [zq_set_tb] at h1 h0
  intro d
  induction d with
  | zero =>
    intro j hj hA
    obtain rfl : j = t := by omega
    rw [wY_visits_3]
    exact br_t (nI_le (Nat.le_refl _) (by omega)) (h0 (fun ⟨i, hi, e⟩ => hA i hi e))
  | succ d ih =>
    intro j hj hA
    obtain ⟨ec, hcj⟩ := zq_ce_nI bs r (nI j)
    rw [wY_visits_3]
    refine br_f (nI_ge (by omega) (by omega)) (zq_placeR hr (pk_eq (zq_cN bs r (nI j)) c (fun e => h1 ⟨j, by omega, e⟩) (fun e => nm_r (nI_1 j) (ih (j + 1) (by omega) (fun i hi => ?_))) ec rfl (by omega) (by omega)))
    by_cases hij : i = j
    · rw [hij]; exact e
    · exact hA i (by omega)
theorem zq_visits {r : Int32} {c : Nat} (hr : zq_ref r) (ht : t ≤ 40) (hc : c < 64) (h1 : (zq_set bs r t).testBit c = true → post 1) (h0 : ¬ (zq_set bs r t).testBit c = true → post 0) :
    wpY_visits post (tt, cn, M, bs, op, tg, sr, se) r (nI t) (nI c) :=
  Exists.intro (t + 1) (zq_vis3 hr ht hc h1 h0 t 0 (by omega) (fun i h => absurd h (Nat.not_lt_zero _)))
theorem zq_sp28 {r : Int32} (hr : zq_ref r) (ht : t ≤ 40) (h : post (nI (zq_cnt (zq_set bs r t) 64))) :
    ∀ d c, c + d = 64 → wY_spread_28 post r (nI t) tt cn M bs op tg sr se (d + 1) (nI (zq_cnt (zq_set bs r t) c)) (nI c) := by
  intro d
  induction d with
  | zero =>
    intro c hc
    obtain rfl : c = 64 := by omega
    rw [wY_spread_28]
    exact br_t (nI_le (a := 64) (b := 64) (by omega) (by omega)) h
  | succ d ih =>
    intro c hc
    have K := ih (c + 1) (by omega)
    have eK : zq_cnt (zq_set bs r t) (c + 1) = zq_cnt (zq_set bs r t) c + (if (zq_set bs r t).testBit c = true then 1 else 0) := rfl
    rw [eK] at K
    rw [wY_spread_28]
    refine br_f (nI_ge (b := 64) (by omega) (by omega)) (zq_visits hr ht (by omega) (fun y => br_f (by decide) (nm_r (nI_1 _) (nm_r (nI_1 c) ?_))) (fun y => br_t rfl (nm_r (nI_1 c) ?_)))
    · rw [if_pos y] at K
      exact K
    · rw [if_neg y] at K
      exact K
theorem zq_mt34 {p q : Int32} (hp : zq_ref p) (hq : zq_ref q) (ht : t ≤ 40) (h1 : (zq_set bs p t &&& zq_set bs q t) ≠ 0 → post 1) (h0 : (zq_set bs p t &&& zq_set bs q t) = 0 → post 0) :
    ∀ d c, c + d = 64 → (∀ c', c' < c → (zq_set bs p t &&& zq_set bs q t).testBit c' = false) → wY_meet_34 post p q (nI t) tt cn M bs op tg sr se (d + 1) (nI c) := by
  intro d
  induction d with
  | zero =>
    intro c hc hA
    obtain rfl : c = 64 := by omega
    rw [wY_meet_34]
    refine br_t (nI_le (a := 64) (b := 64) (by omega) (by omega)) (h0 (Nat.eq_of_testBit_eq (fun i => ?_)))
    rw [Nat.zero_testBit]
    by_cases hi : i < 64
    · exact hA i hi
    · exact Nat.testBit_lt_two_pow (Nat.lt_of_lt_of_le (Nat.lt_of_le_of_lt Nat.and_le_left (zq_set_lt bs p t)) (Nat.pow_le_pow_right (by decide) (by omega)))
  | succ d ih =>
    intro c hc hA
    have K : (zq_set bs p t &&& zq_set bs q t).testBit c = false → wY_meet_34 post p q (nI t) tt cn M bs op tg sr se (d + 1) (nI (c + 1)) := by
      intro hx
      refine ih (c + 1) (by omega) (fun c' hc' => ?_)
      by_cases e : c' = c
      · rw [e]; exact hx
      · exact hA c' (by omega)
    rw [Nat.testBit_and] at K
    rw [wY_meet_34]
    refine br_f (nI_ge (b := 64) (by omega) (by omega)) (zq_visits hp ht (by omega) (fun y => br_f (by decide) (zq_visits hq ht (by omega) (fun z => br_f (by decide) (h1 (fun e => ?_))) (fun z => br_t rfl (nm_r (nI_1 c) (K ?_))))) (fun y => br_t rfl (nm_r (nI_1 c) (K ?_))))
    · have w : (zq_set bs p t &&& zq_set bs q t).testBit c = true := by rw [Nat.testBit_and, y, z]; rfl
      rw [e, Nat.zero_testBit] at w
      exact absurd w (by decide)
    · rw [Bool.eq_false_iff.mpr z, Bool.and_false]
    · rw [Bool.eq_false_iff.mpr y, Bool.false_and]
end
end
section
/-! the relation, and the loops that both sides walk alike -/
def i_Rel (k : Nat) (u : SX) (v : SY) : Prop := match u with
  | (cn, _, sm, M, bs, op, tg, sr, se, _, _, _, _) => v = (sm, cn, M, bs, op, tg, sr, se) ∧ (∃ n : Nat, n ≤ 5 ∧ cn = nI n ∧ zq_Ok op tg sr se n) ∧ zq_Bs bs
theorem i_up {k : Nat} {u : SX} {v : SY} (h : i_Rel k u v) : i_Rel (k + 5) u v := h
theorem zq_mk {k n : Nat} {us sm : Int32} {M bs op tg sr se la lb ur uw : Nat → Int32} (hn : n ≤ 5) (hO : zq_Ok op tg sr se n) (hB : zq_Bs bs) :
    i_Rel k (nI n, us, sm, M, bs, op, tg, sr, se, la, lb, ur, uw) (sm, nI n, M, bs, op, tg, sr, se) := ⟨rfl, ⟨n, hn, rfl, hO⟩, hB⟩
theorem zq_el {k : Nat} {u : SX} {v : SY} {P : SX → SY → Prop} (h : ∀ (n : Nat) (us sm : Int32) (M bs op tg sr se la lb ur uw : Nat → Int32), n ≤ 5 → zq_Ok op tg sr se n → zq_Bs bs → P (nI n, us, sm, M, bs, op, tg, sr, se, la, lb, ur, uw) (sm, nI n, M, bs, op, tg, sr, se)) (I : i_Rel k u v) : P u v := by
  obtain ⟨cn, us, sm, M, bs, op, tg, sr, se, la, lb, ur, uw⟩ := u
  obtain ⟨rfl, ⟨n, hn, rfl, hO⟩, hB⟩ := I
  exact h n us sm M bs op tg sr se la lb ur uw hn hO hB
theorem zq_Ok0 {op tg sr se : Nat → Int32} : zq_Ok op tg sr se 0 := fun k h => absurd h (Nat.not_lt_zero k)
theorem zq_Ok_put {op tg sr se : Nat → Int32} {n o : Nat} {d u w : Int32} (hO : zq_Ok op tg sr se n) (ho : o < 8) (hd : zq_ref d) (hu : zq_ref u) (hw : zq_two (nI o) ≠ 0 → zq_ref w) :
    zq_Ok (upd op n (nI o)) (upd tg n d) (upd sr n u) (upd se n w) (n + 1) := by
  intro k hk
  by_cases e : k = n
  · subst e
    rw [pk_us, pk_us, pk_us, pk_us]
    exact ⟨⟨o, ho, rfl⟩, hd, hu, hw⟩
  · rw [pk_un e, pk_un e, pk_un e, pk_un e]
    exact hO k (by omega)
theorem zq_st50 {n o : Nat} {us sm d x w : Int32} {M bs op tg sr se la lb ur uw : Nat → Int32} (k : Nat) (hn : n ≤ 5) (hO : zq_Ok op tg sr se n) (hB : zq_Bs bs) (ho : o < 8) (hd : zq_ref d) (hx : zq_ref x) (hw : zq_two (nI o) ≠ 0 → zq_ref w) :
    ∃ (r : Int32) (u' : SX) (v' : SY), i_Rel k u' v' ∧ (∀ post : Int32 → SX → Prop, post r u' → wX_statement_50 post (nI o) d x w (nI n) us sm M bs op tg sr se la lb ur uw) ∧
      (∀ post : Int32 → SY → Prop, post r v' → wY_statement_56 post (nI o) d x w sm (nI n) M bs op tg sr se) := by
  by_cases h5 : n = 5
  · subst h5
    exact ⟨-5, _, _, zq_mk (us := us) (sm := sm) (M := M) (la := la) (lb := lb) (ur := ur) (uw := uw) hn hO hB, fun post h => br_t rfl h, fun post h => br_f (nI_nlt (a := 5) (b := 5) (by omega) (by omega)) h⟩
  · have hi : vp_in (nI n) 5 := vp_in_nI (by omega) (by omega)
    have e : (nI n).toNatClampNeg = n := nI_clamp (by omega)
    refine ⟨nI (n + 1), _, _, zq_mk (us := us) (la := la) (lb := lb) (ur := ur) (uw := uw) (sm := sm) (M := M) (show n + 1 ≤ 5 by omega) (zq_Ok_put hO ho hd hx hw) hB, fun post h => ?_, fun post h => ?_⟩
    · unfold wX_statement_50
      rw [e]
      exact br_f (fun z => h5 ((nI_eq (b := 5) (by omega) (by omega)).mp z)) ⟨hi, nm_e ⟨hi, nm_e ⟨hi, nm_e ⟨hi, nm_e (nm_r (nI_1 n) h)⟩⟩⟩⟩
    · unfold wY_statement_56
      rw [e]
      exact br_t (nI_lt (b := 5) (by omega) (by omega)) ⟨hi, nm_e ⟨hi, nm_e ⟨hi, nm_e ⟨hi, nm_e (nm_r (nI_1 n) h)⟩⟩⟩⟩
section
variable {cn us sm : Int32} {bs op tg sr se la lb ur uw : Nat → Int32}
theorem zq_fill {f l : Nat} {x s : Int32} (hl : l < 64) : ∀ d j M, j + d = l + 1 → ∃ M', (∀ post : Int32 → SX → Prop, post 0 (cn, us, sm, M', bs, op, tg, sr, se, la, lb, ur, uw) → wX_fill_20 post (nI f) (nI l) x s cn us sm (d + 1) (nI j) M bs op tg sr se la lb ur uw) ∧
    (∀ post : Int32 → SY → Prop, post 0 (sm, cn, M', bs, op, tg, sr, se) → wY_fill_20 post (nI f) (nI l) x s sm cn (d + 1) (nI j) M bs op tg sr se) := by
  intro d
  induction d with
  | zero =>
    intro j M hj
    refine ⟨M, fun post h => ?_, fun post h => ?_⟩
    · rw [wX_fill_20]
      exact br_t (nI_lt (by omega) (by omega)) h
    · rw [wY_fill_20]
      exact br_t (nI_lt (by omega) (by omega)) h
  | succ d ih =>
    intro j M hj
    have hi : vp_in (nI j) 64 := vp_in_nI (by omega) (by omega)
    obtain ⟨M', HX, HY⟩ := ih (j + 1) (upd M (nI j).toNatClampNeg (x + ((nI j - nI f) * s))) (by omega)
    refine ⟨M', fun post h => ?_, fun post h => ?_⟩
    · rw [wX_fill_20]
      exact br_f (nI_nlt (by omega) (by omega)) ⟨hi, nm_e (nm_r (nI_1 j) (HX post h))⟩
    · rw [wY_fill_20]
      exact br_f (nI_nlt (by omega) (by omega)) ⟨hi, nm_e (nm_r (nI_1 j) (HY post h))⟩
theorem zq_digest {M : Nat → Int32} : ∀ d c (a : Int32), c + d = 64 → ∃ r : Int32, (∀ post : Int32 → Prop, post r → wX_digest_4 post cn us sm M bs op tg sr se la lb ur uw (d + 1) a (nI c)) ∧
    (∀ post : Int32 → Prop, post r → wY_digest_4 post sm cn M bs op tg sr se (d + 1) a (nI c)) := by
  intro d
  induction d with
  | zero =>
    intro c a hc
    refine ⟨a, fun post h => ?_, fun post h => ?_⟩
    · rw [wX_digest_4]
      exact br_t (nI_le (a := 64) (by omega) (by omega)) h
    · rw [wY_digest_4]
      exact br_t (nI_le (a := 64) (by omega) (by omega)) h
  | succ d ih =>
    intro c a hc
    have hi : vp_in (nI c) 64 := vp_in_nI (by omega) (by omega)
    obtain ⟨r, HX, HY⟩ := ih (c + 1) (a + (nI c + 1) * M (nI c).toNatClampNeg) (by omega)
    refine ⟨r, fun post h => ?_, fun post h => ?_⟩
    · rw [wX_digest_4]
      exact br_f (nI_ge (b := 64) (by omega) (by omega)) ⟨hi, nm_e (nm_r (nI_1 c) (HX post h))⟩
    · rw [wY_digest_4]
      exact br_f (nI_ge (b := 64) (by omega) (by omega)) ⟨hi, nm_e (nm_r (nI_1 c) (HY post h))⟩
end
theorem zq_lN0 {a b : Nat} (ha : a < 2 ^ 64) (hb : b < 2 ^ 64) : (lN a &&& lN b) = 0 ↔ (a &&& b) = 0 := by
  have hab : (a &&& b) < 2 ^ 64 := Nat.lt_of_le_of_lt Nat.and_le_left ha
  rw [wb_and ha hb]
  constructor
  · intro h
    have := congrArg BitVec.toNat (congrArg Int64.toBitVec h)
    rw [wb_tn hab] at this
    exact this
  · intro h
    rw [h]
    rfl
end
section
/-! the owed statements -/
theorem i_vc0 : wpX_init (fun u => wpY_init (fun v => i_Rel 0 u v)) := zq_mk (k := 0) (n := 0) (us := 0) (la := fun _ => 0) (lb := fun _ => 0) (ur := fun _ => 0) (uw := fun _ => 0) (Nat.zero_le _) zq_Ok0 (fun _ _ => ⟨0, by omega, rfl⟩)
theorem i_vc_statement {k : Nat} {u : SX} {v : SY} (I : i_Rel k u v) (hk : k + 5 ≤ 2560) (v1 : Int32) (v2 : Int32) (v3 : Int32) (v4 : Int32) : wpX_statement (fun r u' => wpY_statement (fun r' v' => r' = r ∧ i_Rel (k + 5) u' v') v v1 v2 v3 v4) u v1 v2 v3 v4 := by
  refine zq_el (P := fun u v => wpX_statement (fun r u' => wpY_statement (fun r' v' => r' = r ∧ i_Rel (k + 5) u' v') v v1 v2 v3 v4) u v1 v2 v3 v4) ?_ I
  intro n us sm M bs op tg sr se la lb ur uw hn hO hB
  have R : i_Rel (k + 5) (nI n, us, sm, M, bs, op, tg, sr, se, la, lb, ur, uw) (sm, nI n, M, bs, op, tg, sr, se) := zq_mk hn hO hB
  by_cases c1 : v1 < 0
  · exact br_t c1 (br_t c1 ⟨rfl, R⟩)
  by_cases c2 : v1 ≤ 7
  case neg => exact br_f c1 (br_f c2 (br_f c1 (br_f c2 ⟨rfl, R⟩)))
  refine br_f c1 (br_t c2 ?_)
  by_cases r2 : zq_ref v2
  case neg => exact zq_isRef (fun x => absurd x r2) (fun _ => br_t rfl (br_f c1 (br_t c2 (zq_badRef (fun x => absurd x r2) (fun _ => br_f (by decide) ⟨rfl, R⟩)))))
  refine zq_isRef (fun _ => br_f (by decide) ?_) (fun x => absurd r2 x)
  by_cases r3 : zq_ref v3
  case neg => exact zq_isRef (fun x => absurd x r3) (fun _ => br_t rfl (br_f c1 (br_t c2 (zq_badRef (fun _ => br_t rfl (zq_badRef (fun x => absurd x r3) (fun _ => br_f (by decide) ⟨rfl, R⟩))) (fun x => absurd r2 x)))))
  refine zq_isRef (fun _ => br_f (by decide) ?_) (fun x => absurd r3 x)
  obtain ⟨o, ho, rfl⟩ := nI_of2 (M := 7) (n := 7) (by decide) c1 c2
  have Y : ∀ post : Int32 → SY → Prop, (zq_two (nI o) ≠ 0 → zq_ref v4) → wY_statement_56 post (nI o) v2 v3 v4 sm (nI n) M bs op tg sr se → wpY_statement post (sm, nI n, M, bs, op, tg, sr, se) (nI o) v2 v3 v4 := by
    intro post h4 h
    refine br_f c1 (br_t c2 (zq_badRef (fun _ => br_t rfl (zq_badRef (fun _ => br_t rfl (br_c (fun _ => h) (fun a => br_c (fun _ => h) (fun b => zq_badRef (fun _ => br_t rfl h) (fun x => absurd (h4 ?_) x))))) (fun x => absurd r3 x))) (fun x => absurd r2 x)))
    unfold zq_two
    rw [if_neg a, if_neg b]
    decide
  by_cases w : zq_two (nI o) = 0
  · obtain ⟨r, u', v', R', HX, HY⟩ := zq_st50 (us := us) (sm := sm) (M := M) (la := la) (lb := lb) (ur := ur) (uw := uw) (w := v4) (k + 5) hn hO hB (show o < 8 by omega) r2 r3 (fun x => absurd w x)
    exact zq_takes (br_t w (HX _ (Y _ (fun x => absurd w x) (HY _ ⟨rfl, R'⟩))))
  · by_cases r4 : zq_ref v4
    · obtain ⟨r, u', v', R', HX, HY⟩ := zq_st50 (us := us) (sm := sm) (M := M) (la := la) (lb := lb) (ur := ur) (uw := uw) (w := v4) (k + 5) hn hO hB (show o < 8 by omega) r2 r3 (fun _ => r4)
      exact zq_takes (br_f w (zq_isRef (fun _ => br_f (by decide) (HX _ (Y _ (fun _ => r4) (HY _ ⟨rfl, R'⟩)))) (fun x => absurd r4 x)))
    · have a : ¬ nI o < 1 := fun a => w (if_pos a)
      have b : ¬ 4 < nI o := fun b => w (by unfold zq_two; rw [if_neg a, if_pos b])
      exact zq_takes (br_f w (zq_isRef (fun x => absurd x r4) (fun _ => br_t rfl (br_f c1 (br_t c2 (zq_badRef (fun _ => br_t rfl (zq_badRef (fun _ => br_t rfl (br_f a (br_f b (zq_badRef (fun x => absurd x r4) (fun _ => br_f (by decide) ⟨rfl, R⟩))))) (fun x => absurd r3 x))) (fun x => absurd r2 x)))))))
theorem i_vc_retract {k : Nat} {u : SX} {v : SY} (I : i_Rel k u v) (hk : k + 5 ≤ 2560) : wpX_retract (fun r u' => wpY_retract (fun r' v' => r' = r ∧ i_Rel (k + 5) u' v') v) u := by
  refine zq_el (P := fun u v => wpX_retract (fun r u' => wpY_retract (fun r' v' => r' = r ∧ i_Rel (k + 5) u' v') v) u) ?_ I
  intro n us sm M bs op tg sr se la lb ur uw hn hO hB
  cases n with
  | zero => exact br_t rfl (br_t rfl ⟨rfl, zq_mk hn hO hB⟩)
  | succ n =>
    have h : ¬ nI (n + 1) = 0 := nI_ne0 (by omega) (by omega)
    exact br_f h (nm_r (nI_pred n) (br_f h (nm_r (nI_pred n) ⟨rfl, zq_mk (by omega) (fun k hk => hO k (by omega)) hB⟩)))
theorem i_vc_clear {k : Nat} {u : SX} {v : SY} (I : i_Rel k u v) (hk : k + 5 ≤ 2560) : wpX_clear (fun r u' => wpY_clear (fun r' v' => r' = r ∧ i_Rel (k + 5) u' v') v) u := by
  refine zq_el (P := fun u v => wpX_clear (fun r u' => wpY_clear (fun r' v' => r' = r ∧ i_Rel (k + 5) u' v') v) u) ?_ I
  intro n us sm M bs op tg sr se la lb ur uw hn hO hB
  exact And.intro rfl (zq_mk (n := 0) (Nat.zero_le _) zq_Ok0 hB)
theorem i_vc_statements {k : Nat} {u : SX} {v : SY} (I : i_Rel k u v) (hk : k + 5 ≤ 2560) : wpX_statements (fun r => wpY_statements (fun r' => r' = r ∧ i_Rel (k + 5) u v) v) u := by
  refine zq_el (P := fun u v => wpX_statements (fun r => wpY_statements (fun r' => r' = r ∧ i_Rel (k + 5) u v) v) u) ?_ I
  intro n us sm M bs op tg sr se la lb ur uw hn hO hB
  exact And.intro rfl (zq_mk hn hO hB)
theorem i_vc_base {k : Nat} {u : SX} {v : SY} (I : i_Rel k u v) (hk : k + 5 ≤ 2560) (v1 : Int32) (v2 : Int32) : wpX_base (fun r u' => wpY_base (fun r' v' => r' = r ∧ i_Rel (k + 5) u' v') v v1 v2) u v1 v2 := by
  refine zq_el (P := fun u v => wpX_base (fun r u' => wpY_base (fun r' v' => r' = r ∧ i_Rel (k + 5) u' v') v v1 v2) u v1 v2) ?_ I
  intro n us sm M bs op tg sr se la lb ur uw hn hO hB
  have R : i_Rel (k + 5) (nI n, us, sm, M, bs, op, tg, sr, se, la, lb, ur, uw) (sm, nI n, M, bs, op, tg, sr, se) := zq_mk hn hO hB
  by_cases c1 : v1 < 0
  · exact br_t c1 (br_t c1 ⟨rfl, R⟩)
  by_cases c2 : v1 ≤ 3
  case neg => exact br_f c1 (br_f c2 (br_f c1 (br_f c2 ⟨rfl, R⟩)))
  by_cases c3 : v2 < 0
  · exact br_f c1 (br_t c2 (br_t c3 (br_f c1 (br_t c2 (br_t c3 ⟨rfl, R⟩)))))
  obtain ⟨j, hj, rfl⟩ := nI_of2 (M := 3) (n := 3) (by decide) c1 c2
  obtain ⟨b, hb, rfl⟩ := nI_of c3
  have hi : vp_in (nI j) 4 := vp_in_nI (by omega) (by omega)
  by_cases c4 : b < 64
  · refine br_f c1 (br_t c2 (br_f c3 (br_t (nI_lt (b := 64) c4 (by omega)) ⟨hi, nm_e ⟨hi, nm_e (br_f c1 (br_t c2 (br_f c3 (br_t (nI_le (b := 63) (by omega) (by omega)) ⟨hi, nm_e ⟨hi, nm_e ⟨rfl, zq_mk hn hO ?_⟩⟩⟩))))⟩⟩)))
    intro q hq
    rw [nI_clamp (show j < 2 ^ 31 by omega)]
    by_cases e : q = j
    · rw [e, pk_us]
      exact ⟨b, c4, rfl⟩
    · rw [pk_un e]
      exact hB q hq
  · exact br_f c1 (br_t c2 (br_f c3 (br_f (nI_nlt (b := 64) (by omega) hb) (br_f c1 (br_t c2 (br_f c3 (br_f (nI_ge (a := 63) (by omega) hb) ⟨rfl, R⟩)))))))
theorem i_vc_run {k : Nat} {u : SX} {v : SY} (I : i_Rel k u v) (hk : k + 5 ≤ 2560) (v1 : Int32) : wpX_run (fun r u' => wpY_run (fun r' v' => r' = r ∧ i_Rel (k + 5) u' v') v v1) u v1 := by
  refine zq_el (P := fun u v => wpX_run (fun r u' => wpY_run (fun r' v' => r' = r ∧ i_Rel (k + 5) u' v') v v1) u v1) ?_ I
  intro n us sm M bs op tg sr se la lb ur uw hn hO hB
  have R : i_Rel (k + 5) (nI n, us, sm, M, bs, op, tg, sr, se, la, lb, ur, uw) (sm, nI n, M, bs, op, tg, sr, se) := zq_mk hn hO hB
  by_cases c1 : v1 < 0
  · exact br_t c1 (br_t c1 ⟨rfl, R⟩)
  by_cases c2 : v1 ≤ 40
  case neg => exact br_f c1 (br_f c2 (br_f c1 (br_f c2 ⟨rfl, R⟩)))
  obtain ⟨t, ht, rfl⟩ := nI_of2 (M := 40) (n := 40) (by decide) c1 c2
  exact zq_xrun hn ht hB (fun us' la' lb' ur' uw' => zq_yrun hn ht hO ⟨rfl, zq_mk hn hO hB⟩)
theorem i_vc_poke {k : Nat} {u : SX} {v : SY} (I : i_Rel k u v) (hk : k + 5 ≤ 2560) (v1 : Int32) (v2 : Int32) : wpX_poke (fun r u' => wpY_poke (fun r' v' => r' = r ∧ i_Rel (k + 5) u' v') v v1 v2) u v1 v2 := by
  refine zq_el (P := fun u v => wpX_poke (fun r u' => wpY_poke (fun r' v' => r' = r ∧ i_Rel (k + 5) u' v') v v1 v2) u v1 v2) ?_ I
  intro n us sm M bs op tg sr se la lb ur uw hn hO hB
  have R : i_Rel (k + 5) (nI n, us, sm, M, bs, op, tg, sr, se, la, lb, ur, uw) (sm, nI n, M, bs, op, tg, sr, se) := zq_mk hn hO hB
  by_cases c1 : v1 < 0
  · exact br_t c1 (br_t c1 ⟨rfl, R⟩)
  obtain ⟨c, hc, rfl⟩ := nI_of c1
  by_cases c4 : c < 64
  · have hi : vp_in (nI c) 64 := vp_in_nI c4 (by omega)
    exact br_f c1 (br_t (nI_lt (b := 64) c4 (by omega)) ⟨hi, nm_e (br_f c1 (br_t (nI_le (b := 63) (by omega) (by omega)) ⟨hi, nm_e ⟨rfl, zq_mk hn hO hB⟩⟩))⟩)
  · exact br_f c1 (br_f (nI_nlt (b := 64) (by omega) hc) (br_f c1 (br_f (nI_ge (a := 63) (by omega) hc) ⟨rfl, R⟩)))
theorem i_vc_fill {k : Nat} {u : SX} {v : SY} (I : i_Rel k u v) (hk : k + 5 ≤ 2560) (v1 : Int32) (v2 : Int32) (v3 : Int32) (v4 : Int32) : wpX_fill (fun r u' => wpY_fill (fun r' v' => r' = r ∧ i_Rel (k + 5) u' v') v v1 v2 v3 v4) u v1 v2 v3 v4 := by
  refine zq_el (P := fun u v => wpX_fill (fun r u' => wpY_fill (fun r' v' => r' = r ∧ i_Rel (k + 5) u' v') v v1 v2 v3 v4) u v1 v2 v3 v4) ?_ I
  intro n us sm M bs op tg sr se la lb ur uw hn hO hB
  have R : i_Rel (k + 5) (nI n, us, sm, M, bs, op, tg, sr, se, la, lb, ur, uw) (sm, nI n, M, bs, op, tg, sr, se) := zq_mk hn hO hB
  by_cases c1 : v1 < 0
  · exact br_t c1 (br_t c1 ⟨rfl, R⟩)
  by_cases c2 : v2 < v1
  · exact br_f c1 (br_t c2 (br_f c1 (br_t c2 ⟨rfl, R⟩)))
  have c3 : ¬ v2 < 0 := by
    rw [Int32.lt_iff_toInt_lt] at c1 c2 ⊢
    omega
  obtain ⟨f, hf, rfl⟩ := nI_of c1
  obtain ⟨l, hl, rfl⟩ := nI_of c3
  have hfl : f ≤ l := by
    rw [nI_ltI hl hf] at c2
    omega
  by_cases c4 : l < 64
  · obtain ⟨M', HX, HY⟩ := zq_fill (cn := nI n) (us := us) (sm := sm) (bs := bs) (op := op) (tg := tg) (sr := sr) (se := se) (la := la) (lb := lb) (ur := ur) (uw := uw) (f := f) (x := v3) (s := v4) c4 (l + 1 - f) f M (by omega)
    exact br_f c1 (br_f c2 (br_t (nI_lt (b := 64) c4 (by omega)) ⟨_, HX _ (br_f c1 (br_f c2 (br_t (nI_le (b := 63) (by omega) (by omega)) ⟨_, HY _ ⟨rfl, zq_mk hn hO hB⟩⟩)))⟩))
  · exact br_f c1 (br_f c2 (br_f (nI_nlt (b := 64) (by omega) hl) (br_f c1 (br_f c2 (br_f (nI_ge (a := 63) (by omega) hl) ⟨rfl, R⟩)))))
theorem i_vc_peek {k : Nat} {u : SX} {v : SY} (I : i_Rel k u v) (hk : k + 5 ≤ 2560) (v1 : Int32) : wpX_peek (fun r => wpY_peek (fun r' => r' = r ∧ i_Rel (k + 5) u v) v v1) u v1 := by
  refine zq_el (P := fun u v => wpX_peek (fun r => wpY_peek (fun r' => r' = r ∧ i_Rel (k + 5) u v) v v1) u v1) ?_ I
  intro n us sm M bs op tg sr se la lb ur uw hn hO hB
  have R : i_Rel (k + 5) (nI n, us, sm, M, bs, op, tg, sr, se, la, lb, ur, uw) (sm, nI n, M, bs, op, tg, sr, se) := zq_mk hn hO hB
  by_cases c1 : v1 < 0
  · exact br_t c1 (br_t c1 ⟨rfl, R⟩)
  obtain ⟨c, hc, rfl⟩ := nI_of c1
  by_cases c4 : c < 64
  · have hi : vp_in (nI c) 64 := vp_in_nI c4 (by omega)
    exact br_f c1 (br_t (nI_lt (b := 64) c4 (by omega)) ⟨hi, br_f c1 (br_t (nI_le (b := 63) (by omega) (by omega)) ⟨hi, rfl, R⟩)⟩)
  · exact br_f c1 (br_f (nI_nlt (b := 64) (by omega) hc) (br_f c1 (br_f (nI_ge (a := 63) (by omega) hc) ⟨rfl, R⟩)))
theorem i_vc_total {k : Nat} {u : SX} {v : SY} (I : i_Rel k u v) (hk : k + 5 ≤ 2560) : wpX_total (fun r => wpY_total (fun r' => r' = r ∧ i_Rel (k + 5) u v) v) u := by
  refine zq_el (P := fun u v => wpX_total (fun r => wpY_total (fun r' => r' = r ∧ i_Rel (k + 5) u v) v) u) ?_ I
  intro n us sm M bs op tg sr se la lb ur uw hn hO hB
  exact And.intro rfl (zq_mk hn hO hB)
theorem i_vc_setTotal {k : Nat} {u : SX} {v : SY} (I : i_Rel k u v) (hk : k + 5 ≤ 2560) (v1 : Int32) : wpX_setTotal (fun r u' => wpY_setTotal (fun r' v' => r' = r ∧ i_Rel (k + 5) u' v') v v1) u v1 := by
  refine zq_el (P := fun u v => wpX_setTotal (fun r u' => wpY_setTotal (fun r' v' => r' = r ∧ i_Rel (k + 5) u' v') v v1) u v1) ?_ I
  intro n us sm M bs op tg sr se la lb ur uw hn hO hB
  exact And.intro rfl (zq_mk hn hO hB)
theorem i_vc_digest {k : Nat} {u : SX} {v : SY} (I : i_Rel k u v) (hk : k + 5 ≤ 2560) : wpX_digest (fun r => wpY_digest (fun r' => r' = r ∧ i_Rel (k + 5) u v) v) u := by
  refine zq_el (P := fun u v => wpX_digest (fun r => wpY_digest (fun r' => r' = r ∧ i_Rel (k + 5) u v) v) u) ?_ I
  intro n us sm M bs op tg sr se la lb ur uw hn hO hB
  have R : i_Rel (k + 5) (nI n, us, sm, M, bs, op, tg, sr, se, la, lb, ur, uw) (sm, nI n, M, bs, op, tg, sr, se) := zq_mk hn hO hB
  obtain ⟨r, HX, HY⟩ := zq_digest (cn := nI n) (us := us) (sm := sm) (bs := bs) (op := op) (tg := tg) (sr := sr) (se := se) (la := la) (lb := lb) (ur := ur) (uw := uw) (M := M) 64 0 0 rfl
  exact Exists.intro 65 (HX _ (Exists.intro 65 (HY _ ⟨rfl, R⟩)))
theorem i_vc_cellOf {k : Nat} {u : SX} {v : SY} (I : i_Rel k u v) (hk : k + 5 ≤ 2560) (v1 : Int32) (v2 : Int32) : wpX_cellOf (fun r => wpY_cellOf (fun r' => r' = r ∧ i_Rel (k + 5) u v) v v1 v2) u v1 v2 := by
  refine zq_el (P := fun u v => wpX_cellOf (fun r => wpY_cellOf (fun r' => r' = r ∧ i_Rel (k + 5) u v) v v1 v2) u v1 v2) ?_ I
  intro n us sm M bs op tg sr se la lb ur uw hn hO hB
  have R : i_Rel (k + 5) (nI n, us, sm, M, bs, op, tg, sr, se, la, lb, ur, uw) (sm, nI n, M, bs, op, tg, sr, se) := zq_mk hn hO hB
  unfold wpX_cellOf wpY_cellOf
  by_cases r1 : zq_ref v1
  case neg => exact zq_isRef (fun x => absurd x r1) (fun _ => br_t rfl (zq_badRef (fun x => absurd x r1) (fun _ => br_f (by decide) ⟨rfl, R⟩)))
  refine zq_isRef (fun _ => br_f (by decide) ?_) (fun x => absurd r1 x)
  by_cases c1 : v2 < 0
  · exact br_t c1 (zq_badRef (fun _ => br_t rfl (br_t c1 ⟨rfl, R⟩)) (fun x => absurd r1 x))
  by_cases c2 : v2 ≤ 39
  case neg => exact br_f c1 (br_f c2 (zq_badRef (fun _ => br_t rfl (br_f c1 (br_f c2 ⟨rfl, R⟩))) (fun x => absurd r1 x)))
  exact br_f c1 (br_t c2 (zq_cell (zq_badRef (fun _ => br_t rfl (br_f c1 (br_t c2 (zq_placeR r1 ⟨rfl, R⟩)))) (fun x => absurd r1 x))))
theorem i_vc_spread {k : Nat} {u : SX} {v : SY} (I : i_Rel k u v) (hk : k + 5 ≤ 2560) (v1 : Int32) (v2 : Int32) : wpX_spread (fun r => wpY_spread (fun r' => r' = r ∧ i_Rel (k + 5) u v) v v1 v2) u v1 v2 := by
  refine zq_el (P := fun u v => wpX_spread (fun r => wpY_spread (fun r' => r' = r ∧ i_Rel (k + 5) u v) v v1 v2) u v1 v2) ?_ I
  intro n us sm M bs op tg sr se la lb ur uw hn hO hB
  have R : i_Rel (k + 5) (nI n, us, sm, M, bs, op, tg, sr, se, la, lb, ur, uw) (sm, nI n, M, bs, op, tg, sr, se) := zq_mk hn hO hB
  unfold wpX_spread wpY_spread
  by_cases r1 : zq_ref v1
  case neg => exact zq_isRef (fun x => absurd x r1) (fun _ => br_t rfl (zq_badRef (fun x => absurd x r1) (fun _ => br_f (by decide) ⟨rfl, R⟩)))
  refine zq_isRef (fun _ => br_f (by decide) ?_) (fun x => absurd r1 x)
  by_cases c1 : v2 < 0
  · exact br_t c1 (zq_badRef (fun _ => br_t rfl (br_t c1 ⟨rfl, R⟩)) (fun x => absurd r1 x))
  by_cases c2 : v2 ≤ 40
  case neg => exact br_f c1 (br_f c2 (zq_badRef (fun _ => br_t rfl (br_f c1 (br_f c2 ⟨rfl, R⟩))) (fun x => absurd r1 x)))
  obtain ⟨t, ht, rfl⟩ := nI_of2 (M := 40) (n := 40) (by decide) c1 c2
  exact br_f c1 (br_t c2 (zq_cellSet ht (zq_ones (zq_set_lt _ _ _) (zq_badRef (fun _ => br_t rfl (br_f c1 (br_t c2 ⟨65, zq_sp28 r1 ht ⟨rfl, R⟩ 64 0 rfl⟩))) (fun x => absurd r1 x)))))
theorem i_vc_meet {k : Nat} {u : SX} {v : SY} (I : i_Rel k u v) (hk : k + 5 ≤ 2560) (v1 : Int32) (v2 : Int32) (v3 : Int32) : wpX_meet (fun r => wpY_meet (fun r' => r' = r ∧ i_Rel (k + 5) u v) v v1 v2 v3) u v1 v2 v3 := by
  refine zq_el (P := fun u v => wpX_meet (fun r => wpY_meet (fun r' => r' = r ∧ i_Rel (k + 5) u v) v v1 v2 v3) u v1 v2 v3) ?_ I
  intro n us sm M bs op tg sr se la lb ur uw hn hO hB
  have R : i_Rel (k + 5) (nI n, us, sm, M, bs, op, tg, sr, se, la, lb, ur, uw) (sm, nI n, M, bs, op, tg, sr, se) := zq_mk hn hO hB
  unfold wpX_meet wpY_meet
  by_cases r1 : zq_ref v1
  case neg => exact zq_isRef (fun x => absurd x r1) (fun _ => br_t rfl (zq_badRef (fun x => absurd x r1) (fun _ => br_f (by decide) ⟨rfl, R⟩)))
  refine zq_isRef (fun _ => br_f (by decide) ?_) (fun x => absurd r1 x)
  by_cases r2 : zq_ref v2
  case neg => exact zq_isRef (fun x => absurd x r2) (fun _ => br_t rfl (zq_badRef (fun _ => br_t rfl (zq_badRef (fun x => absurd x r2) (fun _ => br_f (by decide) ⟨rfl, R⟩))) (fun x => absurd r1 x)))
  refine zq_isRef (fun _ => br_f (by decide) ?_) (fun x => absurd r2 x)
  by_cases c1 : v3 < 0
  · exact br_t c1 (zq_badRef (fun _ => br_t rfl (zq_badRef (fun _ => br_t rfl (br_t c1 ⟨rfl, R⟩)) (fun x => absurd r2 x))) (fun x => absurd r1 x))
  by_cases c2 : v3 ≤ 40
  case neg => exact br_f c1 (br_f c2 (zq_badRef (fun _ => br_t rfl (zq_badRef (fun _ => br_t rfl (br_f c1 (br_f c2 ⟨rfl, R⟩))) (fun x => absurd r2 x))) (fun x => absurd r1 x)))
  obtain ⟨t, ht, rfl⟩ := nI_of2 (M := 40) (n := 40) (by decide) c1 c2
  have hN := zq_lN0 (zq_set_lt bs v1 t) (zq_set_lt bs v2 t)
  refine br_f c1 (br_t c2 (zq_cellSet ht (zq_cellSet ht (br_c (fun e => ?_) (fun e => ?_)))))
  · exact zq_badRef (fun _ => br_t rfl (zq_badRef (fun _ => br_t rfl (br_f c1 (br_t c2 ⟨65, zq_mt34 r1 r2 ht (fun x => absurd (hN.mp e) x) (fun _ => ⟨rfl, R⟩) 64 0 rfl (fun c h => absurd h (Nat.not_lt_zero _))⟩))) (fun x => absurd r2 x))) (fun x => absurd r1 x)
  · exact zq_badRef (fun _ => br_t rfl (zq_badRef (fun _ => br_t rfl (br_f c1 (br_t c2 ⟨65, zq_mt34 r1 r2 ht (fun _ => ⟨rfl, R⟩) (fun x => absurd (hN.mpr x) e) 64 0 rfl (fun c h => absurd h (Nat.not_lt_zero _))⟩))) (fun x => absurd r2 x))) (fun x => absurd r1 x)
end
